section
/-! Int32 as a set of bits (family bt out of BITS.to-paste, then own rows) -/
def bt (x : Int32) (i : Nat) : Bool := x.toBitVec.getLsbD i
theorem b_ext {x y : Int32} (h : ∀ i, i < 32 → bt x i = bt y i) : x = y := Int32.toBitVec_inj.mp (BitVec.eq_of_getLsbD_eq (fun i hi => h i hi))
theorem b_or (x y : Int32) (i : Nat) : bt (x ||| y) i = (bt x i || bt y i) := by unfold bt; rw [Int32.toBitVec_or, BitVec.getLsbD_or]
theorem b_and (x y : Int32) (i : Nat) : bt (x &&& y) i = (bt x i && bt y i) := by unfold bt; rw [Int32.toBitVec_and, BitVec.getLsbD_and]
theorem b_xor (x y : Int32) (i : Nat) : bt (x ^^^ y) i = (bt x i ^^ bt y i) := by unfold bt; rw [Int32.toBitVec_xor, BitVec.getLsbD_xor]
theorem b_big {x : Int32} {i : Nat} (h : 32 ≤ i) : bt x i = false := BitVec.getLsbD_of_ge _ _ h
theorem b_255 (i : Nat) : bt 255 i = decide (i < 8) := by
  rcases Nat.lt_or_ge i 32 with h | h
  · exact (by decide +kernel : ∀ i, i < 32 → bt 255 i = decide (i < 8)) i h
  · rw [b_big h, decide_eq_false (by omega)]
theorem b_65535 (i : Nat) : bt 65535 i = decide (i < 16) := by
  rcases Nat.lt_or_ge i 32 with h | h
  · exact (by decide +kernel : ∀ i, i < 32 → bt 65535 i = decide (i < 16)) i h
  · rw [b_big h, decide_eq_false (by omega)]
theorem b_m1 : ∀ i, i < 32 → bt (-1) i = true := by decide +kernel
theorem b_0 (i : Nat) : bt 0 i = false := BitVec.getLsbD_zero
theorem s_l : ∀ n, n < 32 → ((nI n &&& 31).toBitVec.smod 32).toNat = n := by decide +kernel
theorem s_u : ∀ n, n < 32 → (((nI n).toUInt32 &&& Int32.toUInt32 31).toBitVec % 32).toNat = n := by decide +kernel
theorem b_shl (n : Nat) (hn : n < 32) (x : Int32) {i : Nat} (hi : i < 32) : bt (x <<< (nI n &&& 31)) i = (decide (n ≤ i) && bt x (i - n)) := by
  unfold bt
  rw [Int32.toBitVec_shiftLeft]
  show (x.toBitVec <<< ((nI n &&& 31).toBitVec.smod 32).toNat).getLsbD i = _
  rw [s_l n hn, BitVec.getLsbD_shiftLeft]
  rcases Nat.lt_or_ge i n with h | h
  · simp [h, Nat.not_le.mpr h]
  · simp [hi, h, Nat.not_lt.mpr h]
theorem b_ushr (n : Nat) (hn : n < 32) (x : Int32) (i : Nat) : bt ((x.toUInt32 >>> ((nI n).toUInt32 &&& Int32.toUInt32 31)).toInt32) i = bt x (n + i) := by
  show (x.toUInt32 >>> ((nI n).toUInt32 &&& Int32.toUInt32 31)).toBitVec.getLsbD i = x.toUInt32.toBitVec.getLsbD (n + i)
  rw [UInt32.toBitVec_shiftRight]
  show (x.toUInt32.toBitVec >>> (((nI n).toUInt32 &&& Int32.toUInt32 31).toBitVec % 32).toNat).getLsbD i = _
  rw [s_u n hn, BitVec.getLsbD_ushiftRight]
theorem b_sshr (n : Nat) (hn : n < 32) (x : Int32) {i : Nat} (hi : i < 32) : bt (x >>> (nI n &&& 31)) i = if n + i < 32 then bt x (n + i) else bt x 31 := by
  unfold bt
  rw [Int32.toBitVec_shiftRight]
  show (x.toBitVec.sshiftRight ((nI n &&& 31).toBitVec.smod 32).toNat).getLsbD i = _
  rw [s_l n hn, BitVec.getLsbD_sshiftRight, BitVec.msb_eq_getLsbD_last]
  simp [hi]
/-! own rows on bits -/
theorem xb_one1 : ∀ i, i < 32 → bt 1 i = decide (i = 0) := by decide +kernel
theorem xb_one (k : Nat) (hk : k < 32) (i : Nat) : bt ((1 : Int32) <<< (nI k &&& 31)) i = decide (i = k) := by
  rcases Nat.lt_or_ge i 32 with h | h
  · rw [b_shl k hk 1 h]
    rcases Nat.lt_or_ge i k with h2 | h2
    · rw [decide_eq_false (by omega), decide_eq_false (by omega)]; rfl
    · rw [decide_eq_true h2, xb_one1 _ (by omega), Bool.true_and]
      congr 1
      apply propext
      omega
  · rw [b_big h, decide_eq_false (by omega)]
/-- the bit k set -/
def sb (x : Int32) (k : Nat) : Int32 := x ||| ((1 : Int32) <<< (nI k &&& 31))
theorem xb_sb (x : Int32) (k : Nat) (hk : k < 32) (i : Nat) : bt (sb x k) i = (bt x i || decide (i = k)) := by
  unfold sb
  rw [b_or, xb_one k hk]
theorem xb_val (x : Int32) (k : Nat) (hk : k < 32) : (x >>> (nI k &&& 31)) &&& 1 = if bt x k = true then 1 else 0 := by
  apply b_ext
  intro i hi
  rw [b_and, b_sshr k hk x hi, xb_one1 i hi]
  by_cases h0 : i = 0
  · subst h0
    rw [if_pos (by omega), Nat.add_zero]
    by_cases h : bt x k = true
    · rw [if_pos h, h, xb_one1 0 (by omega)]; rfl
    · rw [if_neg h, b_0, Bool.eq_false_iff.mpr h]; rfl
  · rw [decide_eq_false h0, Bool.and_false]
    by_cases h : bt x k = true
    · rw [if_pos h, xb_one1 i hi, decide_eq_false h0]
    · rw [if_neg h, b_0]
theorem xb_t (x : Int32) {k : Nat} (hk : k < 32) : (x >>> (nI k &&& 31)) &&& 1 = 1 ↔ bt x k = true := by
  rw [xb_val x k hk]
  by_cases h : bt x k = true
  · simp [h]
  · rw [if_neg h]; exact ⟨fun q => absurd q (by decide), fun q => absurd q h⟩
theorem xb_f (x : Int32) {k : Nat} (hk : k < 32) : (x >>> (nI k &&& 31)) &&& 1 = 0 ↔ ¬ bt x k = true := by
  rw [xb_val x k hk]
  by_cases h : bt x k = true
  · rw [if_pos h]; exact ⟨fun q => absurd q (by decide), fun q => absurd h q⟩
  · rw [if_neg h]; exact ⟨fun _ => h, fun _ => rfl⟩
theorem xb_not (x : Int32) {i : Nat} (h : i < 32) : bt (x ^^^ (-1)) i = !bt x i := by
  rw [b_xor, b_m1 i h, Bool.xor_true]
theorem xb_diff (x y : Int32) (i : Nat) : bt (x &&& (y ^^^ (-1))) i = (bt x i && !bt y i) := by
  rcases Nat.lt_or_ge i 32 with h | h
  · rw [b_and, xb_not y h]
  · rw [b_big h, b_big h]; rfl
theorem xb_ne (x : Int32) : x ≠ 0 ↔ ∃ i, bt x i = true := by
  constructor
  · intro h
    apply Classical.byContradiction
    intro hn
    apply h
    apply b_ext
    intro i _
    rw [b_0]
    cases e : bt x i
    · rfl
    · exact absurd ⟨i, e⟩ hn
  · rintro ⟨i, hi⟩ rfl
    rw [b_0] at hi
    cases hi
theorem xb_eq0 (x : Int32) : x = 0 ↔ ∀ i, ¬ bt x i = true := by
  constructor
  · rintro rfl i hi
    rw [b_0] at hi
    cases hi
  · intro h
    apply Classical.byContradiction
    intro hn
    obtain ⟨i, hi⟩ := (xb_ne x).mp hn
    exact h i hi
/-- two masks of eight bits with the same members -/
theorem xb_same {x y : Int32} {P : Nat → Prop} (hx : ∀ i, bt x i = true ↔ (i < 8 ∧ P i)) (hy : ∀ i, bt y i = true ↔ (i < 8 ∧ P i)) : x = y := by
  apply b_ext
  intro i _
  rw [Bool.eq_iff_iff, hx, hy]
theorem xb_nI2 : ∀ a, a < 2 → ∀ i, i < 32 → bt (nI a) i = (decide (i = 0) && decide (a = 1)) := by decide +kernel
/-- members among the first k -/
def cdn (x : Int32) : Nat → Nat
  | 0 => 0
  | k + 1 => cdn x k + (if bt x k = true then 1 else 0)
def cd (x : Int32) : Nat := cdn x 8
def xsub (x y : Int32) : Prop := ∀ i, bt x i = true → bt y i = true
theorem cdn_le (x : Int32) : ∀ k, cdn x k ≤ k := by
  intro k
  induction k with
  | zero => exact Nat.le_refl 0
  | succ k ih =>
    show cdn x k + _ ≤ k + 1
    split <;> omega
theorem cdn_mono {x y : Int32} (h : xsub x y) : ∀ k, cdn x k ≤ cdn y k := by
  intro k
  induction k with
  | zero => exact Nat.le_refl 0
  | succ k ih =>
    show cdn x k + _ ≤ cdn y k + _
    by_cases hx : bt x k = true
    · rw [if_pos hx, if_pos (h k hx)]; omega
    · rw [if_neg hx]; omega
theorem cdn_lt {x y : Int32} (h : xsub x y) {p : Nat} (hp : ¬ bt x p = true) (hq : bt y p = true) : ∀ k, p < k → cdn x k < cdn y k := by
  intro k
  induction k with
  | zero => intro h; omega
  | succ k ih =>
    intro hk
    show cdn x k + _ < cdn y k + _
    by_cases e : p = k
    · subst e
      rw [if_neg hp, if_pos hq]
      have := cdn_mono h p
      omega
    · have := ih (by omega)
      by_cases hx : bt x k = true
      · rw [if_pos hx, if_pos (h k hx)]; omega
      · rw [if_neg hx]; omega
theorem cd_le (x : Int32) : cd x ≤ 8 := cdn_le x 8
theorem cd_lt {x y : Int32} (h : xsub x y) {p : Nat} (h8 : p < 8) (hp : ¬ bt x p = true) (hq : bt y p = true) : cd x < cd y := cdn_lt h hp hq 8 h8
theorem cd_pos {x : Int32} {p : Nat} (h8 : p < 8) (hq : bt x p = true) : 0 < cd x := by
  have h0 : xsub 0 x := fun i h => by rw [b_0] at h; cases h
  have := cd_lt h0 h8 (by rw [b_0]; exact Bool.false_ne_true) hq
  omega
theorem xsub_trans {x y z : Int32} (h : xsub x y) (h2 : xsub y z) : xsub x z := fun i hi => h2 i (h i hi)
theorem xsub_rf (x : Int32) : xsub x x := fun _ h => h
theorem x255 (i : Nat) : bt 255 i = true ↔ i < 8 := by
  rw [b_255]
  exact decide_eq_true_iff
end
section
/-! parity games, plainly: no program in sight. own: 0 or 1; col: at most 5; f, s: the two moves -/
def pg_e (f s : Nat → Nat) (p q : Nat) : Prop := q = f p ∨ q = s p
def pg_tb (f s : Nat → Nat) (b : Bool) (p : Nat) : Nat := if b = true then s p else f p
def pg_t (f s : Nat → Nat) (π : Nat → Bool) (p : Nat) : Nat := pg_tb f s (π p) p
/-- a move, player i keeping to the plan π -/
def pg_m (own f s : Nat → Nat) (i : Nat) (π : Nat → Bool) (p q : Nat) : Prop := (own p = i ∧ q = pg_t f s π p) ∨ (own p ≠ i ∧ pg_e f s p q)
/-- the same over positions of colour at most c -/
def pg_R (own col f s : Nat → Nat) (i : Nat) (π : Nat → Bool) (c : Nat) (p q : Nat) : Prop := p < 8 ∧ col p ≤ c ∧ col q ≤ c ∧ pg_m own f s i π p q
def pg_bad (own col f s : Nat → Nat) (i : Nat) (π : Nat → Bool) (p : Nat) : Prop := ∃ c, c ≤ 5 ∧ c % 2 ≠ i ∧ col p = c ∧ Relation.TransGen (pg_R own col f s i π c) p p
def pg_win (own col f s : Nat → Nat) (i : Nat) (π : Nat → Bool) (p : Nat) : Prop := ¬ pg_bad own col f s i π p ∧ ∀ q, Relation.TransGen (pg_R own col f s i π 5) p q → ¬ pg_bad own col f s i π q
def pg_ok (own col f s : Nat → Nat) : Prop := ∀ p, p < 8 → own p ≤ 1 ∧ col p ≤ 5 ∧ f p < 8 ∧ s p < 8
theorem pg_e_tb {f s : Nat → Nat} {p q : Nat} (h : pg_e f s p q) : ∃ b, pg_tb f s b p = q := by
  rcases h with h | h
  · exact ⟨false, by rw [h]; rfl⟩
  · exact ⟨true, by rw [h]; rfl⟩
theorem pg_tb_e (f s : Nat → Nat) (b : Bool) (p : Nat) : pg_e f s p (pg_tb f s b p) := by
  cases b
  · exact Or.inl rfl
  · exact Or.inr rfl
theorem pg_m_e {own f s : Nat → Nat} {i : Nat} {π : Nat → Bool} {p q : Nat} (h : pg_m own f s i π p q) : pg_e f s p q := by
  rcases h with ⟨_, h⟩ | ⟨_, h⟩
  · rw [h]; exact pg_tb_e _ _ _ _
  · exact h
theorem pg_m_eq {own f s : Nat → Nat} {i : Nat} {π π' : Nat → Bool} {p q : Nat} (h : π p = π' p) (hm : pg_m own f s i π p q) : pg_m own f s i π' p q := by
  rcases hm with ⟨h1, h2⟩ | h1
  · refine Or.inl ⟨h1, ?_⟩
    rw [h2]
    unfold pg_t
    rw [h]
  · exact Or.inr h1
/-! closures -/
theorem tg_mono {r r' : Nat → Nat → Prop} (h : ∀ a b, r a b → r' a b) {a b : Nat} (t : Relation.TransGen r a b) : Relation.TransGen r' a b := by
  induction t with
  | single h1 => exact .single (h _ _ h1)
  | tail _ h1 ih => exact .tail ih (h _ _ h1)
theorem tg_in {r : Nat → Nat → Prop} {S : Nat → Prop} (h : ∀ a b, S a → r a b → S b) {a b : Nat} (ha : S a) (t : Relation.TransGen r a b) : S b ∧ Relation.TransGen (fun x y => r x y ∧ S x ∧ S y) a b := by
  induction t with
  | single h1 => exact ⟨h _ _ ha h1, .single ⟨h1, ha, h _ _ ha h1⟩⟩
  | tail _ h1 ih => exact ⟨h _ _ ih.1 h1, .tail ih.2 ⟨h1, ih.1, h _ _ ih.1 h1⟩⟩
theorem tg_out {r : Nat → Nat → Prop} {S : Nat → Prop} (h : ∀ a b, S a → r a b → S b) {a b : Nat} (t : Relation.TransGen r a b) (hb : ¬ S b) : Relation.TransGen (fun x y => r x y ∧ ¬ S x ∧ ¬ S y) a b := by
  induction t with
  | single h1 => exact .single ⟨h1, fun q => hb (h _ _ q h1), hb⟩
  | tail _ h1 ih =>
    have hc : ¬ S _ := fun q => hb (h _ _ q h1)
    exact .tail (ih hc) ⟨h1, hc, hb⟩
theorem tg_first {r : Nat → Nat → Prop} {a b : Nat} (t : Relation.TransGen r a b) : ∃ c, r a c := by
  induction t with
  | single h1 => exact ⟨_, h1⟩
  | tail _ _ ih => exact ih
/-! winning a set within an arena; what can be forced -/
def zw_W (own col f s : Nat → Nat) (i : Nat) (π : Nat → Bool) (Wn X : Nat → Prop) : Prop :=
  (∀ p, Wn p → X p) ∧ (∀ p, Wn p → own p = i → Wn (pg_t f s π p)) ∧ (∀ p, Wn p → own p ≠ i → ∀ q, pg_e f s p q → X q → Wn q) ∧
  ∀ p c, c % 2 ≠ i → col p = c → ¬ Relation.TransGen (fun x y => Wn x ∧ Wn y ∧ col x ≤ c ∧ col y ≤ c ∧ pg_m own f s i π x y) p p
def zw_at (own f s : Nat → Nat) (i : Nat) (T X B : Nat → Prop) : Prop :=
  (∀ p, T p → B p) ∧ (∀ p, B p → X p) ∧
  (∃ rk : Nat → Nat, ∀ p, B p → ¬ T p → (own p = i → ∃ q, pg_e f s p q ∧ B q ∧ rk q < rk p) ∧ (own p ≠ i → ∀ q, pg_e f s p q → X q → B q ∧ rk q < rk p)) ∧
  ∀ p, X p → ¬ B p → (own p = i → ∀ q, pg_e f s p q → X q → ¬ B q) ∧ (own p ≠ i → ∃ q, pg_e f s p q ∧ X q ∧ ¬ B q)
def zw_ar (f s : Nat → Nat) (X : Nat → Prop) : Prop := ∀ p, X p → ∃ q, pg_e f s p q ∧ X q
theorem zw_rest {own f s : Nat → Nat} {i : Nat} {T X B : Nat → Prop} (hX : zw_ar f s X) (h : zw_at own f s i T X B) : zw_ar f s (fun p => X p ∧ ¬ B p) := by
  intro p hp
  obtain ⟨h1, h2⟩ := h.2.2.2 p hp.1 hp.2
  by_cases ho : own p = i
  · obtain ⟨q, he, hq⟩ := hX p hp.1
    exact ⟨q, he, hq, h1 ho q he hq⟩
  · exact h2 ho
theorem zw_empty {own col f s : Nat → Nat} {i : Nat} {π : Nat → Bool} {X : Nat → Prop} : zw_W own col f s i π (fun _ => False) X :=
  ⟨fun _ h => h.elim, fun _ h => h.elim, fun _ h => h.elim, fun p c _ _ t => (tg_first t).choose_spec.1.elim⟩
/-- all that can be forced to the greatest colour is set aside, and the rest is won by that player: all is won -/
theorem zw_A {own col f s : Nat → Nat} {i d : Nat} {T X A : Nat → Prop} {π1 : Nat → Bool} (hX : zw_ar f s X) (hd : ∀ p, X p → col p ≤ d) (hT : ∀ p, T p ↔ X p ∧ col p = d) (hi : d % 2 = i) (hA : zw_at own f s i T X A) (hY : zw_W own col f s i π1 (fun p => X p ∧ ¬ A p) (fun p => X p ∧ ¬ A p)) :
    ∃ π, zw_W own col f s i π X X := by
  obtain ⟨hTA, hAX, ⟨rk, hrk⟩, hco⟩ := hA
  have hch : ∀ p, ∃ b : Bool, (X p → ¬ A p → b = π1 p) ∧ (X p → T p → X (pg_tb f s b p)) ∧ (A p → ¬ T p → own p = i → A (pg_tb f s b p) ∧ rk (pg_tb f s b p) < rk p) := by
    intro p
    by_cases h1 : X p
    · by_cases h2 : A p
      · by_cases h3 : T p
        · obtain ⟨q, he, hq⟩ := hX p h1
          obtain ⟨b, rfl⟩ := pg_e_tb he
          exact ⟨b, fun _ h => absurd h2 h, fun _ _ => hq, fun _ h => absurd h3 h⟩
        · by_cases h4 : own p = i
          · obtain ⟨q, he, hq⟩ := (hrk p h2 h3).1 h4
            obtain ⟨b, rfl⟩ := pg_e_tb he
            exact ⟨b, fun _ h => absurd h2 h, fun _ h => absurd h h3, fun _ _ _ => hq⟩
          · exact ⟨true, fun _ h => absurd h2 h, fun _ h => absurd h h3, fun _ _ h => absurd h h4⟩
      · exact ⟨π1 p, fun _ _ => rfl, fun _ h => absurd (hTA p h) h2, fun h => absurd h h2⟩
    · exact ⟨true, fun h => absurd h h1, fun h => absurd h h1, fun h => absurd (hAX p h) h1⟩
  obtain ⟨π, hπ⟩ := Classical.axiomOfChoice hch
  refine ⟨π, fun _ h => h, ?_, fun _ _ _ _ _ h => h, ?_⟩
  · intro p hp ho
    by_cases h2 : A p
    · by_cases h3 : T p
      · exact (hπ p).2.1 hp h3
      · exact hAX _ ((hπ p).2.2 h2 h3 ho).1
    · have h4 := hY.2.1 p ⟨hp, h2⟩ ho
      have e : π p = π1 p := (hπ p).1 hp h2
      show X (pg_tb f s (π p) p)
      rw [e]
      exact h4.1
  · intro p c hc hp t
    have hXp : X p := (tg_first t).choose_spec.1
    have hcd : c < d := by
      have := hd p hXp
      have h2 : c ≠ d := fun e => hc (by rw [e]; exact hi)
      omega
    have hnT : ∀ x, col x ≤ c → ¬ T x := fun x hx h => by
      have := ((hT x).mp h).2
      omega
    have step : ∀ x y, A x → (X x ∧ X y ∧ col x ≤ c ∧ col y ≤ c ∧ pg_m own f s i π x y) → A y ∧ rk y < rk x := by
      intro x y hx ⟨hXx, hXy, hcx, hcy, hm⟩
      rcases hm with ⟨h1, h2⟩ | ⟨h1, h2⟩
      · rw [h2]
        exact (hπ x).2.2 hx (hnT x hcx) h1
      · exact (hrk x hx (hnT x hcx)).2 h1 y h2 hXy
    by_cases hAp : A p
    · have : ∀ q, Relation.TransGen (fun x y => X x ∧ X y ∧ col x ≤ c ∧ col y ≤ c ∧ pg_m own f s i π x y) p q → A q ∧ rk q < rk p := by
        intro q tq
        induction tq with
        | single h1 => exact step _ _ hAp h1
        | tail _ h1 ih =>
          have := step _ _ ih.1 h1
          exact ⟨this.1, Nat.lt_trans this.2 ih.2⟩
      exact absurd (this p t).2 (Nat.lt_irrefl _)
    · have t2 := tg_out (S := A) (fun x y hx hr => (step x y hx hr).1) t hAp
      refine hY.2.2.2 p c hc hp (tg_mono ?_ t2)
      intro x y ⟨⟨h1, h2, h3, h4, h5⟩, h6, h7⟩
      exact ⟨⟨h1, h6⟩, ⟨h2, h7⟩, h3, h4, pg_m_eq ((hπ x).1 h1 h6) h5⟩
/-- what the other player o wins in the rest is given away, with all that o can force into it; behind that the rest is solved anew: o's part -/
theorem zw_B {own col f s : Nat → Nat} {i o : Nat} {T X A lost B W' : Nat → Prop} {π1 π2 : Nat → Bool} (hio : ∀ p, X p → own p ≠ o → own p = i) (hA : zw_at own f s i T X A) (hl : zw_W own col f s o π1 lost (fun p => X p ∧ ¬ A p)) (hB : zw_at own f s o lost X B) (hW : zw_W own col f s o π2 W' (fun p => X p ∧ ¬ B p)) :
    ∃ π, zw_W own col f s o π (fun p => B p ∨ W' p) X := by
  obtain ⟨hlB, hBX, ⟨rk, hrk⟩, hcoB⟩ := hB
  have hch : ∀ p, ∃ b : Bool, (lost p → b = π1 p) ∧ (W' p → ¬ B p → b = π2 p) ∧ (B p → ¬ lost p → own p = o → B (pg_tb f s b p) ∧ rk (pg_tb f s b p) < rk p) := by
    intro p
    by_cases h1 : lost p
    · exact ⟨π1 p, fun _ => rfl, fun _ h => absurd (hlB p h1) h, fun _ h => absurd h1 h⟩
    · by_cases h2 : B p
      · by_cases h3 : own p = o
        · obtain ⟨q, he, hq⟩ := (hrk p h2 h1).1 h3
          obtain ⟨b, rfl⟩ := pg_e_tb he
          exact ⟨b, fun h => absurd h h1, fun _ h => absurd h2 h, fun _ _ _ => hq⟩
        · exact ⟨true, fun h => absurd h h1, fun _ h => absurd h2 h, fun _ _ h => absurd h h3⟩
      · exact ⟨π2 p, fun h => absurd h h1, fun _ _ => rfl, fun h => absurd h h2⟩
  obtain ⟨π, hπ⟩ := Classical.axiomOfChoice hch
  have hWB : ∀ p, W' p → ¬ B p := fun p h => (hW.1 p h).2
  have hsub : ∀ p, B p ∨ W' p → X p := fun p h => h.elim (hBX p) (fun h => (hW.1 p h).1)
  have out : ∀ p q, lost p → own p ≠ o → pg_e f s p q → X q → lost q := by
    intro p q hp ho he hq
    have hpY := hl.1 p hp
    have hnA : ¬ A q := (hA.2.2.2 p hpY.1 hpY.2).1 (hio p hpY.1 ho) q he hq
    exact hl.2.2.1 p hp ho q he ⟨hq, hnA⟩
  have stay : ∀ p, lost p → own p = o → lost (pg_t f s π p) := by
    intro p hp ho
    show lost (pg_tb f s (π p) p)
    rw [(hπ p).1 hp]
    exact hl.2.1 p hp ho
  refine ⟨π, hsub, ?_, ?_, ?_⟩
  · intro p hp ho
    by_cases h1 : lost p
    · exact Or.inl (hlB _ (stay p h1 ho))
    · by_cases h2 : B p
      · exact Or.inl ((hπ p).2.2 h2 h1 ho).1
      · have h3 : W' p := hp.resolve_left h2
        refine Or.inr ?_
        show W' (pg_tb f s (π p) p)
        rw [(hπ p).2.1 h3 h2]
        exact hW.2.1 p h3 ho
  · intro p hp ho q he hq
    by_cases h1 : lost p
    · exact Or.inl (hlB _ (out p q h1 ho he hq))
    · by_cases h2 : B p
      · exact Or.inl ((hrk p h2 h1).2 ho q he hq).1
      · have h3 : W' p := hp.resolve_left h2
        by_cases h4 : B q
        · exact Or.inl h4
        · exact Or.inr (hW.2.2.1 p h3 ho q he ⟨hq, h4⟩)
  · intro p c hc hp t
    have fl : ∀ x y, lost x → ((B x ∨ W' x) ∧ (B y ∨ W' y) ∧ col x ≤ c ∧ col y ≤ c ∧ pg_m own f s o π x y) → lost y := by
      intro x y hx ⟨_, hy, _, _, hm⟩
      rcases hm with ⟨h1, h2⟩ | ⟨h1, h2⟩
      · rw [h2]; exact stay x hx h1
      · exact out x y hx h1 h2 (hsub y hy)
    have fb : ∀ x y, B x → ((B x ∨ W' x) ∧ (B y ∨ W' y) ∧ col x ≤ c ∧ col y ≤ c ∧ pg_m own f s o π x y) → lost y ∨ (¬ lost x ∧ B y ∧ rk y < rk x) := by
      intro x y hx hr
      by_cases h1 : lost x
      · exact Or.inl (fl x y h1 hr)
      · obtain ⟨_, hy, _, _, hm⟩ := hr
        rcases hm with ⟨h2, h3⟩ | ⟨h2, h3⟩
        · rw [h3]
          exact Or.inr ⟨h1, (hπ x).2.2 hx h1 h2⟩
        · exact Or.inr ⟨h1, (hrk x hx h1).2 h2 y h3 (hsub y hy)⟩
    by_cases h1 : lost p
    · have t2 := (tg_in (S := lost) fl h1 t).2
      refine hl.2.2.2 p c hc hp (tg_mono ?_ t2)
      intro x y ⟨⟨_, _, h3, h4, h5⟩, h6, h7⟩
      exact ⟨h6, h7, h3, h4, pg_m_eq ((hπ x).1 h6) h5⟩
    · by_cases h2 : B p
      · have : ∀ q, Relation.TransGen (fun x y => (B x ∨ W' x) ∧ (B y ∨ W' y) ∧ col x ≤ c ∧ col y ≤ c ∧ pg_m own f s o π x y) p q → lost q ∨ (B q ∧ rk q < rk p) := by
          intro q tq
          induction tq with
          | single h3 => exact (fb _ _ h2 h3).imp id (fun h => h.2)
          | tail _ h3 ih =>
            rcases ih with h4 | ⟨h4, h5⟩
            · exact Or.inl (fl _ _ h4 h3)
            · exact (fb _ _ h4 h3).imp id (fun h => ⟨h.2.1, Nat.lt_trans h.2.2 h5⟩)
        rcases this p t with h3 | h3
        · exact h1 h3
        · exact Nat.lt_irrefl _ h3.2
      · have t2 := tg_out (S := B) (fun x y hx hr => (fb x y hx hr).elim (hlB y) (fun h => h.2.1)) t h2
        refine hW.2.2.2 p c hc hp (tg_mono ?_ t2)
        intro x y ⟨⟨h3, h4, h5, h6, h7⟩, h8, h9⟩
        have hx : W' x := h3.resolve_left h8
        exact ⟨hx, h4.resolve_left h9, h5, h6, pg_m_eq ((hπ x).2.1 hx h8) h7⟩
/-- and i's part -/
theorem zw_C {own col f s : Nat → Nat} {i o : Nat} {X lost B W' : Nat → Prop} {π : Nat → Bool} (hio : ∀ p, X p → own p ≠ i → own p = o) (hB : zw_at own f s o lost X B) (hW : zw_W own col f s i π W' (fun p => X p ∧ ¬ B p)) : zw_W own col f s i π W' X := by
  refine ⟨fun p h => (hW.1 p h).1, hW.2.1, ?_, hW.2.2.2⟩
  intro p hp ho q he hq
  have hpX := hW.1 p hp
  exact hW.2.2.1 p hp ho q he ⟨hq, (hB.2.2.2 p hpX.1 hpX.2).1 (hio p hpX.1 ho) q he hq⟩
/-! plans that win -/
theorem pg_of_W {own col f s : Nat → Nat} {i : Nat} {π : Nat → Bool} {Wn : Nat → Prop} (hok : pg_ok own col f s) (hW : zw_W own col f s i π Wn (fun p => p < 8)) : ∀ p, Wn p → pg_win own col f s i π p := by
  have fwd : ∀ c x y, Wn x → pg_R own col f s i π c x y → Wn y := by
    intro c x y hx ⟨h8, _, _, hm⟩
    rcases hm with ⟨h1, h2⟩ | ⟨h1, h2⟩
    · rw [h2]; exact hW.2.1 x hx h1
    · refine hW.2.2.1 x hx h1 y h2 ?_
      obtain ⟨_, _, h3, h4⟩ := hok x h8
      rcases h2 with h2 | h2
      · rw [h2]; exact h3
      · rw [h2]; exact h4
  have nb : ∀ q, Wn q → ¬ pg_bad own col f s i π q := by
    intro q hq ⟨c, _, h2, h3, t⟩
    refine hW.2.2.2 q c h2 h3 (tg_mono ?_ (tg_in (S := Wn) (fwd c) hq t).2)
    intro x y ⟨⟨_, h5, h6, h7⟩, h8, h9⟩
    exact ⟨h8, h9, h5, h6, h7⟩
  intro p hp
  exact ⟨nb p hp, fun q t => nb q (tg_in (S := Wn) (fwd 5) hp t).1⟩
theorem pg_win_eq {own col f s : Nat → Nat} {i : Nat} {π π' : Nat → Bool} (h : ∀ p, p < 8 → own p = i → π p = π' p) {p : Nat} (hw : pg_win own col f s i π p) : pg_win own col f s i π' p := by
  have hR : ∀ c x y, pg_R own col f s i π' c x y → pg_R own col f s i π c x y := by
    intro c x y ⟨h1, h2, h3, h4⟩
    refine ⟨h1, h2, h3, ?_⟩
    rcases h4 with ⟨h5, h6⟩ | h5
    · exact pg_m_eq (h x h1 h5).symm (Or.inl ⟨h5, h6⟩)
    · exact Or.inr h5
  have hb : ∀ q, pg_bad own col f s i π' q → pg_bad own col f s i π q := fun q ⟨c, h1, h2, h3, t⟩ => ⟨c, h1, h2, h3, tg_mono (hR c) t⟩
  exact ⟨fun q => hw.1 (hb _ q), fun q t hq => hw.2 q (tg_mono (hR 5) t) (hb _ hq)⟩
theorem pg_hole : ∀ (N : Nat) (g : Nat → Nat), (∀ i, i ≤ N → g i < N) → ∃ a b, a < b ∧ b ≤ N ∧ g a = g b := by
  intro N
  induction N with
  | zero => intro g h; exact absurd (h 0 (Nat.le_refl 0)) (Nat.not_lt_zero _)
  | succ N ih =>
    intro g h
    by_cases hx : ∃ i, i ≤ N ∧ g i = g (N + 1)
    · obtain ⟨i, h1, h2⟩ := hx
      exact ⟨i, N + 1, by omega, Nat.le_refl _, h2⟩
    · have hne : ∀ i, i ≤ N → g i ≠ g (N + 1) := fun i hi e => hx ⟨i, hi, e⟩
      have hl : ∀ i, i ≤ N → (if g i = N then g (N + 1) else g i) < N := by
        intro i hi
        have h1 := h i (by omega)
        have h2 := h (N + 1) (Nat.le_refl _)
        have h3 := hne i hi
        split <;> omega
      obtain ⟨a, b, h1, h2, h3⟩ := ih (fun i => if g i = N then g (N + 1) else g i) hl
      refine ⟨a, b, h1, by omega, ?_⟩
      have h4 := hne a (by omega)
      have h5 := hne b h2
      split at h3 <;> split at h3 <;> omega
theorem pg_max : ∀ (k : Nat) (g : Nat → Nat), (∀ m, 8 ≤ m → g m ≤ k) → ∃ n, 8 ≤ n ∧ ∀ m, 8 ≤ m → g m ≤ g n := by
  intro k
  induction k with
  | zero => intro g h; exact ⟨8, Nat.le_refl 8, fun m hm => by have := h m hm; omega⟩
  | succ k ih =>
    intro g h
    by_cases hx : ∃ n, 8 ≤ n ∧ g n = k + 1
    · obtain ⟨n, h1, h2⟩ := hx
      exact ⟨n, h1, fun m hm => by rw [h2]; exact h m hm⟩
    · refine ih g (fun m hm => ?_)
      have h1 := h m hm
      have h2 : g m ≠ k + 1 := fun e => hx ⟨m, hm, e⟩
      omega
def pg_it (nx : Nat → Nat) (p : Nat) : Nat → Nat
  | 0 => p
  | n + 1 => nx (pg_it nx p n)
theorem pg_it_per {nx : Nat → Nat} {p a b : Nat} (h : pg_it nx p a = pg_it nx p b) : ∀ k, pg_it nx p (a + k) = pg_it nx p (b + k) := by
  intro k
  induction k with
  | zero => exact h
  | succ k ih =>
    show nx (pg_it nx p (a + k)) = nx (pg_it nx p (b + k))
    rw [ih]
/-- two plans of the two players don't both win from one position -/
theorem pg_one {own col f s : Nat → Nat} (hok : pg_ok own col f s) {i : Nat} (hi : i ≤ 1) {π π' : Nat → Bool} {p : Nat} (hp : p < 8) (h1 : pg_win own col f s i π p) (h2 : pg_win own col f s (1 - i) π' p) : False := by
  obtain ⟨nx, hnx⟩ : ∃ nx : Nat → Nat, ∀ x, nx x = if own x = i then pg_t f s π x else pg_t f s π' x := ⟨_, fun _ => rfl⟩
  have he : ∀ x, pg_e f s x (nx x) := by
    intro x
    rw [hnx]
    split <;> exact pg_tb_e _ _ _ _
  have hlt : ∀ x, x < 8 → nx x < 8 := by
    intro x hx
    obtain ⟨_, _, h3, h4⟩ := hok x hx
    rcases he x with h | h <;> rw [h] <;> assumption
  have m1 : ∀ x, pg_m own f s i π x (nx x) := by
    intro x
    by_cases h : own x = i
    · exact Or.inl ⟨h, by rw [hnx, if_pos h]⟩
    · exact Or.inr ⟨h, he x⟩
  have m2 : ∀ x, x < 8 → pg_m own f s (1 - i) π' x (nx x) := by
    intro x hx
    have := (hok x hx).1
    by_cases h : own x = 1 - i
    · exact Or.inl ⟨h, by rw [hnx, if_neg (by omega)]⟩
    · exact Or.inr ⟨h, he x⟩
  have hit : ∀ n, pg_it nx p n < 8 := by
    intro n
    induction n with
    | zero => exact hp
    | succ n ih => exact hlt _ ih
  obtain ⟨a, b, hab, hb8, hper⟩ := pg_hole 8 (pg_it nx p) (fun i _ => hit i)
  obtain ⟨n, hn, hmax⟩ := pg_max 5 (fun m => col (pg_it nx p m)) (fun m _ => (hok _ (hit m)).2.1)
  have hcyc : pg_it nx p (n + (b - a)) = pg_it nx p n := by
    have := pg_it_per hper (n - a)
    rw [show a + (n - a) = n by omega, show b + (n - a) = n + (b - a) by omega] at this
    exact this.symm
  have p1 : ∀ c N, (∀ m, N ≤ m → col (pg_it nx p m) ≤ c) → ∀ k, Relation.TransGen (pg_R own col f s i π c) (pg_it nx p N) (pg_it nx p (N + (k + 1))) := by
    intro c N hc k
    induction k with
    | zero => exact .single ⟨hit _, hc _ (by omega), hc (N + 1) (by omega), m1 _⟩
    | succ k ih => exact .tail ih ⟨hit _, hc _ (by omega), hc (N + (k + 1) + 1) (by omega), m1 _⟩
  have p2 : ∀ c N, (∀ m, N ≤ m → col (pg_it nx p m) ≤ c) → ∀ k, Relation.TransGen (pg_R own col f s (1 - i) π' c) (pg_it nx p N) (pg_it nx p (N + (k + 1))) := by
    intro c N hc k
    induction k with
    | zero => exact .single ⟨hit _, hc _ (by omega), hc (N + 1) (by omega), m2 _ (hit _)⟩
    | succ k ih => exact .tail ih ⟨hit _, hc _ (by omega), hc (N + (k + 1) + 1) (by omega), m2 _ (hit _)⟩
  have hc5 : ∀ m, 0 ≤ m → col (pg_it nx p m) ≤ 5 := fun m _ => (hok _ (hit m)).2.1
  have hcn : ∀ m, n ≤ m → col (pg_it nx p m) ≤ col (pg_it nx p n) := fun m hm => hmax m (by omega)
  have e1 : n + (b - a) = n + ((b - a - 1) + 1) := by omega
  have e2 : n = 0 + ((n - 1) + 1) := by omega
  by_cases hpar : col (pg_it nx p n) % 2 = i
  · have t := p2 _ n hcn (b - a - 1)
    rw [← e1, hcyc] at t
    have t0 := p2 5 0 hc5 (n - 1)
    rw [← e2] at t0
    exact h2.2 _ t0 ⟨_, (hok _ (hit n)).2.1, by omega, rfl, t⟩
  · have t := p1 _ n hcn (b - a - 1)
    rw [← e1, hcyc] at t
    have t0 := p1 5 0 hc5 (n - 1)
    rw [← e2] at t0
    exact h1.2 _ t0 ⟨_, (hok _ (hit n)).2.1, hpar, rfl, t⟩
end
section
/-! what the class computes when it solves, over Int32 and plainly: no program in sight -/
def ow (one : Int32) (k : Nat) : Int32 := (one >>> (nI k &&& 31)) &&& 1
def mvs (F S : Nat → Int32) (k : Nat) : Int32 := ((1 : Int32) <<< (F k &&& 31)) ||| ((1 : Int32) <<< (S k &&& 31))
def fcd (one : Int32) (F S : Nat → Int32) (player among before : Int32) (k : Nat) : Prop := (ow one k = player ∧ ¬ (mvs F S k &&& among) &&& before = 0) ∨ (¬ ow one k = player ∧ (mvs F S k &&& among) &&& (before ^^^ (-1)) = 0)
theorem fcd_dec (one : Int32) (F S : Nat → Int32) (player among before : Int32) (k : Nat) : fcd one F S player among before k ∨ ¬ fcd one F S player among before k := Classical.em _
/-- one pass of forcing, k positions looked at -/
noncomputable def fps (one : Int32) (F S : Nat → Int32) (player among before set0 : Int32) : Nat → Int32
  | 0 => set0
  | k + 1 => @ite _ (bt among k = true ∧ fcd one F S player among before k) (Classical.propDecidable _) (sb (fps one F S player among before set0 k) k) (fps one F S player among before set0 k)
theorem fps_t {one : Int32} {F S : Nat → Int32} {player among before set0 : Int32} {k : Nat} (h : bt among k = true ∧ fcd one F S player among before k) : fps one F S player among before set0 (k + 1) = sb (fps one F S player among before set0 k) k := if_pos h
theorem fps_f {one : Int32} {F S : Nat → Int32} {player among before set0 : Int32} {k : Nat} (h : ¬ (bt among k = true ∧ fcd one F S player among before k)) : fps one F S player among before set0 (k + 1) = fps one F S player among before set0 k := if_neg h
/-- the passes: n may be left -/
noncomputable def fro (one : Int32) (F S : Nat → Int32) (player among : Int32) : Nat → Int32 → Int32 → Int32
  | 0, set, _ => set
  | n + 1, set, before => if set = before then set else fro one F S player among n (fps one F S player among set set 8) set
def gre (C : Nat → Int32) (set : Int32) : Nat → Int32
  | 0 => 0
  | k + 1 => if bt set k = true ∧ ¬ C k ≤ gre C set k then C k else gre C set k
def wcl (C : Nat → Int32) (set colour : Int32) : Nat → Int32
  | 0 => 0
  | k + 1 => if bt set k = true ∧ C k = colour then sb (wcl C set colour k) k else wcl C set colour k
def pn (x : Int32) : Nat := if bt x 0 = true then 1 else 0
theorem pn_lt (x : Int32) : pn x < 2 := by unfold pn; split <;> omega
theorem pn_and (x : Int32) : x &&& 1 = nI (pn x) := by
  have h := xb_val x 0 (by omega)
  have h0 : x >>> (nI 0 &&& 31) = x := by
    apply b_ext
    intro i hi
    rw [b_sshr 0 (by omega) x hi, if_pos (by omega), Nat.zero_add]
  rw [h0] at h
  rw [h]
  unfold pn
  split <;> rfl
theorem pn_sub (x : Int32) : 1 - nI (pn x) = nI (1 - pn x) := by
  unfold pn
  split <;> rfl
/-- the class's state holds this game -/
def gv (own col f s : Nat → Nat) (one : Int32) (C F S : Nat → Int32) : Prop := pg_ok own col f s ∧ ∀ p, p < 8 → ow one p = nI (own p) ∧ C p = nI (col p) ∧ F p = nI (f p) ∧ S p = nI (s p)
section
variable {own col f s : Nat → Nat} {one : Int32} {C F S : Nat → Int32}
theorem mvs_bits (hg : gv own col f s one C F S) {p : Nat} (hp : p < 8) (q : Nat) : bt (mvs F S p) q = true ↔ pg_e f s p q := by
  obtain ⟨_, _, h1, h2⟩ := hg.1 p hp
  obtain ⟨_, _, h3, h4⟩ := hg.2 p hp
  unfold mvs pg_e
  rw [h3, h4, b_or, xb_one _ (by omega), xb_one _ (by omega), Bool.or_eq_true, decide_eq_true_iff, decide_eq_true_iff]
theorem fcd_sem (hg : gv own col f s one C F S) {p i : Nat} (hp : p < 8) (hi : i ≤ 1) (X B : Int32) : fcd one F S (nI i) X B p ↔ ((own p = i ∧ ∃ q, pg_e f s p q ∧ bt X q = true ∧ bt B q = true) ∨ (own p ≠ i ∧ ∀ q, pg_e f s p q → bt X q = true → bt B q = true)) := by
  have ho : ow one p = nI i ↔ own p = i := by
    rw [(hg.2 p hp).1, nI_eq (by have := (hg.1 p hp).1; omega) (by omega)]
  unfold fcd
  rw [ho]
  have e1 : ¬ (mvs F S p &&& X) &&& B = 0 ↔ ∃ q, pg_e f s p q ∧ bt X q = true ∧ bt B q = true := by
    rw [← ne_eq, xb_ne]
    constructor
    · rintro ⟨q, hq⟩
      rw [b_and, b_and, Bool.and_eq_true, Bool.and_eq_true, mvs_bits hg hp] at hq
      exact ⟨q, hq.1.1, hq.1.2, hq.2⟩
    · rintro ⟨q, h1, h2, h3⟩
      refine ⟨q, ?_⟩
      rw [b_and, b_and, Bool.and_eq_true, Bool.and_eq_true, mvs_bits hg hp]
      exact ⟨⟨h1, h2⟩, h3⟩
  have e2 : (mvs F S p &&& X) &&& (B ^^^ (-1)) = 0 ↔ ∀ q, pg_e f s p q → bt X q = true → bt B q = true := by
    rw [xb_eq0]
    constructor
    · intro h q h1 h2
      have := h q
      rw [xb_diff, b_and, Bool.and_eq_true, Bool.and_eq_true, mvs_bits hg hp, Bool.not_eq_true'] at this
      cases e : bt B q
      · exact absurd ⟨⟨h1, h2⟩, e⟩ this
      · rfl
    · intro h q hq
      rw [xb_diff, b_and, Bool.and_eq_true, Bool.and_eq_true, mvs_bits hg hp, Bool.not_eq_true'] at hq
      rw [h q hq.1.1 hq.1.2] at hq
      cases hq.2
  rw [e1, e2]
theorem fps_bits (player among before set0 : Int32) : ∀ k, k ≤ 8 → ∀ i, bt (fps one F S player among before set0 k) i = true ↔ (bt set0 i = true ∨ (i < k ∧ bt among i = true ∧ fcd one F S player among before i)) := by
  intro k
  induction k with
  | zero => intro _ i; exact ⟨Or.inl, fun h => h.elim id (fun h => absurd h.1 (Nat.not_lt_zero _))⟩
  | succ k ih =>
    intro hk i
    have ih := ih (by omega) i
    by_cases h : bt among k = true ∧ fcd one F S player among before k
    · rw [fps_t h, xb_sb _ k (by omega), Bool.or_eq_true, ih, decide_eq_true_iff]
      constructor
      · rintro ((h1 | ⟨h1, h2⟩) | h1)
        · exact Or.inl h1
        · exact Or.inr ⟨by omega, h2⟩
        · subst h1; exact Or.inr ⟨by omega, h⟩
      · rintro (h1 | ⟨h1, h2⟩)
        · exact Or.inl (Or.inl h1)
        · by_cases e : i = k
          · exact Or.inr e
          · exact Or.inl (Or.inr ⟨by omega, h2⟩)
    · rw [fps_f h, ih]
      constructor
      · rintro (h1 | ⟨h1, h2⟩)
        · exact Or.inl h1
        · exact Or.inr ⟨by omega, h2⟩
      · rintro (h1 | ⟨h1, h2⟩)
        · exact Or.inl h1
        · by_cases e : i = k
          · subst e; exact absurd h2 h
          · exact Or.inr ⟨by omega, h2⟩
theorem fro_same (player among : Int32) (n : Nat) (x : Int32) : fro one F S player among n x x = x := by
  cases n with
  | zero => rfl
  | succ n => exact if_pos rfl
/-- what the passes come to, with a rank -/
theorem fro_main (hg : gv own col f s one C F S) {i : Nat} (hi : i ≤ 1) {X : Int32} (hX : xsub X 255) : ∀ (n : Nat) (set before : Int32), xsub set X → set ≠ before → 9 ≤ n + cd set →
    xsub set (fro one F S (nI i) X n set before) ∧ xsub (fro one F S (nI i) X n set before) X ∧
    (∀ p, bt X p = true → fcd one F S (nI i) X (fro one F S (nI i) X n set before) p → bt (fro one F S (nI i) X n set before) p = true) ∧
    ∃ rk : Nat → Nat, (∀ p, bt set p = true → rk p = 0) ∧ ∀ p, bt (fro one F S (nI i) X n set before) p = true → ¬ bt set p = true → 0 < rk p ∧
      ((own p = i ∧ ∃ q, pg_e f s p q ∧ bt X q = true ∧ bt (fro one F S (nI i) X n set before) q = true ∧ rk q < rk p) ∨ (own p ≠ i ∧ ∀ q, pg_e f s p q → bt X q = true → bt (fro one F S (nI i) X n set before) q = true ∧ rk q < rk p)) := by
  intro n
  induction n with
  | zero =>
    intro set before _ _ hc
    have := cd_le set
    omega
  | succ n ih =>
    intro set before hs hne hc
    have e : fro one F S (nI i) X (n + 1) set before = fro one F S (nI i) X n (fps one F S (nI i) X set set 8) set := if_neg hne
    rw [e]
    have hb := fps_bits (one := one) (F := F) (S := S) (nI i) X set set 8 (Nat.le_refl 8)
    have h8 : ∀ p, bt X p = true → p < 8 := fun p h => (x255 p).mp (hX p h)
    by_cases hfix : fps one F S (nI i) X set set 8 = set
    · rw [hfix, fro_same]
      refine ⟨xsub_rf _, hs, ?_, fun _ => 0, fun _ _ => rfl, fun p h1 h2 => absurd h1 h2⟩
      intro p hp hf
      have := (hb p).mpr (Or.inr ⟨h8 p hp, hp, hf⟩)
      rwa [hfix] at this
    · have hsub : xsub set (fps one F S (nI i) X set set 8) := fun p h => (hb p).mpr (Or.inl h)
      have hsX : xsub (fps one F S (nI i) X set set 8) X := by
        intro p h
        rcases (hb p).mp h with h | h
        · exact hs p h
        · exact h.2.1
      have hgrow : cd set < cd (fps one F S (nI i) X set set 8) := by
        have : ∃ p, bt (fps one F S (nI i) X set set 8) p = true ∧ ¬ bt set p = true := by
          apply Classical.byContradiction
          intro hn
          apply hfix
          apply b_ext
          intro p _
          rw [Bool.eq_iff_iff]
          constructor
          · intro h
            apply Classical.byContradiction
            intro h2
            exact hn ⟨p, h, h2⟩
          · exact hsub p
        obtain ⟨p, h1, h2⟩ := this
        exact cd_lt hsub (h8 p (hsX p h1)) h2 h1
      obtain ⟨i1, i2, i3, rk, i4, i5⟩ := ih _ set hsX hfix (by omega)
      generalize hB : fro one F S (nI i) X n (fps one F S (nI i) X set set 8) set = B at i1 i2 i3 i5 ⊢
      refine ⟨xsub_trans hsub i1, i2, i3, ?_⟩
      refine ⟨fun p => @ite _ (bt set p = true) (Classical.propDecidable _) 0 (rk p + 1), fun p h => if_pos h, ?_⟩
      intro p h1 h2
      have ep : (@ite _ (bt set p = true) (Classical.propDecidable _) 0 (rk p + 1)) = rk p + 1 := if_neg h2
      have hle : ∀ q, (@ite _ (bt set q = true) (Classical.propDecidable _) 0 (rk q + 1)) ≤ rk q + 1 := by
        intro q
        by_cases h : bt set q = true
        · rw [if_pos h]; omega
        · rw [if_neg h]; omega
      dsimp only
      rw [ep]
      refine ⟨by omega, ?_⟩
      by_cases h3 : bt (fps one F S (nI i) X set set 8) p = true
      · rcases (hb p).mp h3 with h4 | ⟨h4, h5, h6⟩
        · exact absurd h4 h2
        · rcases (fcd_sem hg h4 hi X set).mp h6 with ⟨h7, q, h8, h9, h10⟩ | ⟨h7, h8⟩
          · refine Or.inl ⟨h7, q, h8, h9, i1 q (hsub q h10), ?_⟩
            rw [if_pos h10]; omega
          · refine Or.inr ⟨h7, fun q h9 h10 => ⟨i1 q (hsub q (h8 q h9 h10)), ?_⟩⟩
            rw [if_pos (h8 q h9 h10)]; omega
      · rcases (i5 p h1 h3).2 with ⟨h7, q, h8, h9, h10, h11⟩ | ⟨h7, h8⟩
        · exact Or.inl ⟨h7, q, h8, h9, h10, by have := hle q; omega⟩
        · exact Or.inr ⟨h7, fun q h9 h10 => ⟨(h8 q h9 h10).1, by have := hle q; have := (h8 q h9 h10).2; omega⟩⟩
theorem fro_at (hg : gv own col f s one C F S) {i : Nat} (hi : i ≤ 1) {X T : Int32} (hX : xsub X 255) (hT : xsub T X) (h0 : T ≠ 0) : zw_at own f s i (fun p => bt T p = true) (fun p => bt X p = true) (fun p => bt (fro one F S (nI i) X 9 T 0) p = true) := by
  have h8 : ∀ p, bt X p = true → p < 8 := fun p h => (x255 p).mp (hX p h)
  have hc : 9 ≤ 9 + cd T := by omega
  obtain ⟨i1, i2, i3, rk, i4, i5⟩ := fro_main hg hi hX 9 T 0 hT h0 hc
  refine ⟨i1, i2, ⟨rk, fun p h1 h2 => ?_⟩, fun p h1 h2 => ?_⟩
  · rcases (i5 p h1 h2).2 with ⟨h3, q, h4, _, h5, h6⟩ | ⟨h3, h4⟩
    · exact ⟨fun _ => ⟨q, h4, h5, h6⟩, fun h => absurd h3 h⟩
    · exact ⟨fun h => absurd h h3, fun _ q h5 h6 => h4 q h5 h6⟩
  · have hn : ¬ fcd one F S (nI i) X (fro one F S (nI i) X 9 T 0) p := fun h => h2 (i3 p h1 h)
    rw [fcd_sem hg (h8 p h1) hi] at hn
    constructor
    · intro h3 q h4 h5 h6
      exact hn (Or.inl ⟨h3, q, h4, h5, h6⟩)
    · intro h3
      apply Classical.byContradiction
      intro h4
      refine hn (Or.inr ⟨h3, fun q h5 h6 => ?_⟩)
      apply Classical.byContradiction
      intro h7
      exact h4 ⟨q, h5, h6, h7⟩
theorem gre_main (hg : gv own col f s one C F S) (X : Int32) : ∀ k, k ≤ 8 → ∃ d, d ≤ 5 ∧ gre C X k = nI d ∧ (∀ p, p < k → bt X p = true → col p ≤ d) ∧ ((∃ p, p < k ∧ bt X p = true) → ∃ p, p < k ∧ bt X p = true ∧ col p = d) ∧ ((¬ ∃ p, p < k ∧ bt X p = true) → d = 0) := by
  intro k
  induction k with
  | zero => intro _; exact ⟨0, by omega, rfl, fun p h => absurd h (Nat.not_lt_zero _), fun ⟨p, h, _⟩ => absurd h (Nat.not_lt_zero _), fun _ => rfl⟩
  | succ k ih =>
    intro hk
    obtain ⟨d, h1, h2, h3, h4, h5⟩ := ih (by omega)
    have hc := (hg.1 k (by omega)).2.1
    have hC := (hg.2 k (by omega)).2.1
    have hle : C k ≤ gre C X k ↔ col k ≤ d := by rw [hC, h2, nI_leI (by omega) (by omega)]
    by_cases hb : bt X k = true ∧ ¬ C k ≤ gre C X k
    · have e : gre C X (k + 1) = C k := if_pos hb
      rw [hle] at hb
      refine ⟨col k, hc, by rw [e, hC], ?_, fun _ => ⟨k, by omega, hb.1, rfl⟩, fun h => absurd ⟨k, by omega, hb.1⟩ h⟩
      intro p hp hx
      by_cases e2 : p = k
      · rw [e2]; exact Nat.le_refl _
      · have := h3 p (by omega) hx
        omega
    · have e : gre C X (k + 1) = gre C X k := if_neg hb
      rw [hle] at hb
      refine ⟨d, h1, by rw [e, h2], ?_, ?_, ?_⟩
      · intro p hp hx
        by_cases e2 : p = k
        · subst e2
          apply Classical.byContradiction
          intro h
          exact hb ⟨hx, h⟩
        · exact h3 p (by omega) hx
      · intro _
        by_cases hx : ∃ p, p < k ∧ bt X p = true
        · obtain ⟨p, q1, q2⟩ := h4 hx
          exact ⟨p, by omega, q2⟩
        · rename_i hxx
          obtain ⟨p, q1, q2⟩ := hxx
          have e2 : p = k := by
            apply Classical.byContradiction
            intro h
            exact hx ⟨p, by omega, q2⟩
          subst e2
          have h0 := h5 hx
          refine ⟨p, q1, q2, ?_⟩
          have : ¬ ¬ col p ≤ d := fun h => hb ⟨q2, h⟩
          have := Classical.not_not.mp this
          omega
      · intro hx
        exact h5 (fun ⟨p, q1, q2⟩ => hx ⟨p, by omega, q2⟩)
theorem wcl_bits (X colour : Int32) : ∀ k, k ≤ 8 → ∀ i, bt (wcl C X colour k) i = true ↔ (i < k ∧ bt X i = true ∧ C i = colour) := by
  intro k
  induction k with
  | zero => intro _ i; exact ⟨fun h => (by rw [show wcl C X colour 0 = 0 from rfl, b_0] at h; cases h), fun h => absurd h.1 (Nat.not_lt_zero _)⟩
  | succ k ih =>
    intro hk i
    have ih := ih (by omega) i
    by_cases h : bt X k = true ∧ C k = colour
    · have e : wcl C X colour (k + 1) = sb (wcl C X colour k) k := if_pos h
      rw [e, xb_sb _ k (by omega), Bool.or_eq_true, ih, decide_eq_true_iff]
      constructor
      · rintro (⟨h1, h2⟩ | h1)
        · exact ⟨by omega, h2⟩
        · subst h1; exact ⟨by omega, h⟩
      · rintro ⟨h1, h2⟩
        by_cases e : i = k
        · exact Or.inr e
        · exact Or.inl ⟨by omega, h2⟩
    · have e : wcl C X colour (k + 1) = wcl C X colour k := if_neg h
      rw [e, ih]
      constructor
      · rintro ⟨h1, h2⟩
        exact ⟨by omega, h2⟩
      · rintro ⟨h1, h2⟩
        by_cases e : i = k
        · subst e; exact absurd h2 h
        · exact ⟨by omega, h2⟩
theorem pn_nI : ∀ d, d ≤ 5 → pn (nI d) = d % 2 := by
  intro d hd
  have : ∀ d, d < 6 → pn (nI d) = d % 2 := by decide +kernel
  exact this d (by omega)
/-- the recursion that the class's stack unfolds -/
noncomputable def zA (one : Int32) (C F S : Nat → Int32) (X : Int32) : Int32 := fro one F S (nI (pn (gre C X 8))) X 9 (wcl C X (gre C X 8) 8) 0
noncomputable def zB (one : Int32) (C F S : Nat → Int32) (X lost : Int32) : Int32 := fro one F S (nI (1 - pn (gre C X 8))) X 9 lost 0
noncomputable def zz (one : Int32) (C F S : Nat → Int32) : Nat → Int32 → (Nat → Int32)
  | 0, _ => fun _ => 0
  | n + 1, X => if X = 0 then fun _ => 0 else
      if zz one C F S n (X &&& (zA one C F S X ^^^ (-1))) (1 - pn (gre C X 8)) = 0 then upd (zz one C F S n (X &&& (zA one C F S X ^^^ (-1)))) (pn (gre C X 8)) X
      else upd (zz one C F S n (X &&& (zB one C F S X (zz one C F S n (X &&& (zA one C F S X ^^^ (-1))) (1 - pn (gre C X 8))) ^^^ (-1)))) (1 - pn (gre C X 8))
        (zz one C F S n (X &&& (zB one C F S X (zz one C F S n (X &&& (zA one C F S X ^^^ (-1))) (1 - pn (gre C X 8))) ^^^ (-1))) (1 - pn (gre C X 8)) ||| zB one C F S X (zz one C F S n (X &&& (zA one C F S X ^^^ (-1))) (1 - pn (gre C X 8))))
theorem zw_none {i : Nat} {π : Nat → Bool} {Wn X : Nat → Prop} (h : ∀ p, ¬ Wn p) : zw_W own col f s i π Wn X :=
  ⟨fun p q => absurd q (h p), fun p q => absurd q (h p), fun p q => absurd q (h p), fun p c _ _ t => h p (tg_first t).choose_spec.1⟩
theorem zA_at (hg : gv own col f s one C F S) {X : Int32} (hX : xsub X 255) (h0 : X ≠ 0) : ∃ d, d ≤ 5 ∧ pn (gre C X 8) = d % 2 ∧ (∀ p, bt X p = true → col p ≤ d) ∧ (∀ p, bt (wcl C X (gre C X 8) 8) p = true ↔ bt X p = true ∧ col p = d) ∧ xsub (wcl C X (gre C X 8) 8) X ∧ wcl C X (gre C X 8) 8 ≠ 0 := by
  have h8 : ∀ p, bt X p = true → p < 8 := fun p h => (x255 p).mp (hX p h)
  obtain ⟨d, h1, h2, h3, h4, -⟩ := gre_main hg X 8 (Nat.le_refl 8)
  have hb := wcl_bits (C := C) X (gre C X 8) 8 (Nat.le_refl 8)
  have hw : ∀ p, bt (wcl C X (gre C X 8) 8) p = true ↔ bt X p = true ∧ col p = d := by
    intro p
    rw [hb]
    constructor
    · rintro ⟨q1, q2, q3⟩
      refine ⟨q2, ?_⟩
      rw [(hg.2 p q1).2.1, h2] at q3
      exact (nI_eq (by have := (hg.1 p q1).2.1; omega) (by omega)).mp q3
    · rintro ⟨q1, q2⟩
      refine ⟨h8 p q1, q1, ?_⟩
      rw [(hg.2 p (h8 p q1)).2.1, h2, q2]
  obtain ⟨p, hp⟩ := (xb_ne X).mp h0
  obtain ⟨q, _, q2, q3⟩ := h4 ⟨p, h8 p hp, hp⟩
  exact ⟨d, h1, by rw [h2]; exact pn_nI d h1, fun p h => h3 p (h8 p h) h, hw, fun p h => ((hw p).mp h).1, (xb_ne _).mpr ⟨q, (hw q).mpr ⟨q2, q3⟩⟩⟩
theorem cd_diff {X T B : Int32} (hX : xsub X 255) (hT : xsub T B) (hB : xsub B X) (h0 : T ≠ 0) : cd (X &&& (B ^^^ (-1))) < cd X := by
  obtain ⟨p, hp⟩ := (xb_ne T).mp h0
  have hpX := hB p (hT p hp)
  refine cd_lt (fun q h => ?_) ((x255 p).mp (hX p hpX)) ?_ hpX
  · rw [xb_diff, Bool.and_eq_true] at h; exact h.1
  · rw [xb_diff, hT p hp, Bool.not_true, Bool.and_false]; exact Bool.false_ne_true
theorem bits_diff (X B : Int32) : (fun p => bt (X &&& (B ^^^ (-1))) p = true) = (fun p => bt X p = true ∧ ¬ bt B p = true) := by
  funext p
  apply propext
  rw [xb_diff, Bool.and_eq_true, Bool.not_eq_true', Bool.not_eq_true]
theorem xsub_diff (X B : Int32) : xsub (X &&& (B ^^^ (-1))) X := fun p h => by rw [xb_diff, Bool.and_eq_true] at h; exact h.1
set_option maxHeartbeats 1000000 in
/-- the recursion solves the game: the two parts, and a plan for each player on its own part -/
theorem zz_ok (hg : gv own col f s one C F S) : ∀ (n : Nat) (X : Int32), xsub X 255 → zw_ar f s (fun p => bt X p = true) → cd X ≤ n →
    (∀ p, bt X p = true ↔ bt (zz one C F S n X 0) p = true ∨ bt (zz one C F S n X 1) p = true) ∧ (∀ p, ¬ (bt (zz one C F S n X 0) p = true ∧ bt (zz one C F S n X 1) p = true)) ∧
    ∀ i, i ≤ 1 → ∃ π, zw_W own col f s i π (fun p => bt (zz one C F S n X i) p = true) (fun p => bt X p = true) := by
  intro n
  induction n with
  | zero =>
    intro X hX _ hc
    have hno : ∀ p, ¬ bt X p = true := fun p h => by
      have := cd_pos ((x255 p).mp (hX p h)) h
      omega
    have hz : ∀ i p, ¬ bt (zz one C F S 0 X i) p = true := fun i p h => by
      rw [show zz one C F S 0 X i = 0 from rfl, b_0] at h; cases h
    exact ⟨fun p => ⟨fun h => absurd h (hno p), fun h => h.elim (fun h => absurd h (hz 0 p)) (fun h => absurd h (hz 1 p))⟩, fun p h => hz 0 p h.1, fun i _ => ⟨fun _ => true, zw_none (hz i)⟩⟩
  | succ n ih =>
    intro X hX har hc
    by_cases h0 : X = 0
    · have hz : ∀ i p, ¬ bt (zz one C F S (n + 1) X i) p = true := fun i p h => by
        rw [show zz one C F S (n + 1) X = fun _ => 0 from if_pos h0, b_0] at h; cases h
      have hno : ∀ p, ¬ bt X p = true := fun p h => by rw [h0, b_0] at h; cases h
      exact ⟨fun p => ⟨fun h => absurd h (hno p), fun h => h.elim (fun h => absurd h (hz 0 p)) (fun h => absurd h (hz 1 p))⟩, fun p h => hz 0 p h.1, fun i _ => ⟨fun _ => true, zw_none (hz i)⟩⟩
    · obtain ⟨d, hd5, hpn, hmax, hT, hTX, hT0⟩ := zA_at hg hX h0
      have h8 : ∀ p, bt X p = true → p < 8 := fun p h => (x255 p).mp (hX p h)
      generalize hi : pn (gre C X 8) = i at hpn
      have hi1 : i ≤ 1 := by omega
      have hA := fro_at hg hi1 hX hTX hT0
      have eA : zA one C F S X = fro one F S (nI i) X 9 (wcl C X (gre C X 8) 8) 0 := by unfold zA; rw [hi]
      rw [← eA] at hA
      have harY := zw_rest har hA
      have hcY := cd_diff hX hA.1 hA.2.1 hT0
      have hY := ih (X &&& (zA one C F S X ^^^ (-1))) (xsub_trans (xsub_diff _ _) hX) (by rw [bits_diff]; exact harY) (by omega)
      have hio : ∀ p, bt X p = true → own p ≠ 1 - i → own p = i := fun p h h2 => by
        have := (hg.1 p (h8 p h)).1
        omega
      have hoi : ∀ p, bt X p = true → own p ≠ i → own p = 1 - i := fun p h h2 => by
        have := (hg.1 p (h8 p h)).1
        omega
      rw [bits_diff] at hY
      obtain ⟨y1, y2, y3⟩ := hY
      have yy : ∀ p, (bt X p = true ∧ ¬ bt (zA one C F S X) p = true) ↔ bt (zz one C F S n (X &&& (zA one C F S X ^^^ (-1))) 0) p = true ∨ bt (zz one C F S n (X &&& (zA one C F S X ^^^ (-1))) 1) p = true := by
        intro p
        rw [← y1, xb_diff, Bool.and_eq_true, Bool.not_eq_true', Bool.not_eq_true]
      have yall : ∀ p, (bt X p = true ∧ ¬ bt (zA one C F S X) p = true) ↔ bt (zz one C F S n (X &&& (zA one C F S X ^^^ (-1))) i) p = true ∨ bt (zz one C F S n (X &&& (zA one C F S X ^^^ (-1))) (1 - i)) p = true := by
        intro p
        rw [yy]
        rcases (show i = 0 ∨ i = 1 by omega) with e | e <;> subst e
        · exact Iff.rfl
        · exact Or.comm
      by_cases hl : zz one C F S n (X &&& (zA one C F S X ^^^ (-1))) (1 - i) = 0
      · have e : zz one C F S (n + 1) X = upd (zz one C F S n (X &&& (zA one C F S X ^^^ (-1)))) i X := by
          show (if X = 0 then _ else if _ then _ else _) = _
          rw [if_neg h0, hi, if_pos hl]
        have ei : zz one C F S (n + 1) X i = X := by rw [e]; exact pk_us
        have eo : zz one C F S (n + 1) X (1 - i) = 0 := by rw [e, pk_un (by omega)]; exact hl
        have hpart : ∀ p, bt X p = true ↔ bt (zz one C F S (n + 1) X i) p = true ∨ bt (zz one C F S (n + 1) X (1 - i)) p = true := by
          intro p
          rw [ei, eo, b_0]
          exact ⟨Or.inl, fun h => h.elim id (fun h => by cases h)⟩
        have hdis : ∀ p, ¬ (bt (zz one C F S (n + 1) X i) p = true ∧ bt (zz one C F S (n + 1) X (1 - i)) p = true) := by
          intro p h
          rw [eo, b_0] at h
          cases h.2
        have hwi : ∃ π, zw_W own col f s i π (fun p => bt (zz one C F S (n + 1) X i) p = true) (fun p => bt X p = true) := by
          rw [ei]
          obtain ⟨π1, hπ1⟩ := y3 i hi1
          have eY : (fun p => bt (zz one C F S n (X &&& (zA one C F S X ^^^ (-1))) i) p = true) = (fun p => bt X p = true ∧ ¬ bt (zA one C F S X) p = true) := by
            funext p
            apply propext
            rw [yall, hl, b_0]
            exact ⟨Or.inl, fun h => h.elim id (fun h => by cases h)⟩
          rw [eY] at hπ1
          exact zw_A har hmax hT hpn.symm hA hπ1
        have hwo : ∃ π, zw_W own col f s (1 - i) π (fun p => bt (zz one C F S (n + 1) X (1 - i)) p = true) (fun p => bt X p = true) := by
          rw [eo]
          exact ⟨fun _ => true, zw_none (fun p h => by rw [b_0] at h; cases h)⟩
        rcases (show i = 0 ∨ i = 1 by omega) with e0 | e0
        · subst e0
          refine ⟨hpart, hdis, fun j hj => ?_⟩
          rcases (show j = 0 ∨ j = 1 by omega) with e1 | e1 <;> subst e1
          · exact hwi
          · exact hwo
        · subst e0
          refine ⟨fun p => (hpart p).trans Or.comm, fun p h => hdis p ⟨h.2, h.1⟩, fun j hj => ?_⟩
          rcases (show j = 0 ∨ j = 1 by omega) with e1 | e1 <;> subst e1
          · exact hwo
          · exact hwi
      · generalize hlo : zz one C F S n (X &&& (zA one C F S X ^^^ (-1))) (1 - i) = lost at hl
        have hlX : xsub lost X := fun p h => ((yall p).mpr (Or.inr (by rw [hlo]; exact h))).1
        have hB := fro_at hg (i := 1 - i) (by omega) hX hlX hl
        have eB : zB one C F S X lost = fro one F S (nI (1 - i)) X 9 lost 0 := by unfold zB; rw [hi]
        rw [← eB] at hB
        have harX := zw_rest har hB
        have hcX := cd_diff hX hB.1 hB.2.1 hl
        have hXX := ih (X &&& (zB one C F S X lost ^^^ (-1))) (xsub_trans (xsub_diff _ _) hX) (by rw [bits_diff]; exact harX) (by omega)
        rw [bits_diff] at hXX
        obtain ⟨x1, x2, x3⟩ := hXX
        have e : zz one C F S (n + 1) X = upd (zz one C F S n (X &&& (zB one C F S X lost ^^^ (-1)))) (1 - i) (zz one C F S n (X &&& (zB one C F S X lost ^^^ (-1))) (1 - i) ||| zB one C F S X lost) := by
          show (if X = 0 then _ else if _ then _ else _) = _
          rw [if_neg h0, hi, hlo, if_neg hl]
        generalize zz one C F S n (X &&& (zB one C F S X lost ^^^ (-1))) = w at x1 x2 x3 e
        generalize zB one C F S X lost = B at hB harX hcX x1 x2 x3 e
        have ei : zz one C F S (n + 1) X i = w i := by rw [e, pk_un (by omega)]
        have eo : zz one C F S (n + 1) X (1 - i) = w (1 - i) ||| B := by rw [e]; exact pk_us
        have xall : ∀ p, (bt X p = true ∧ ¬ bt B p = true) ↔ bt (w i) p = true ∨ bt (w (1 - i)) p = true := by
          intro p
          have : (bt X p = true ∧ ¬ bt B p = true) ↔ bt (w 0) p = true ∨ bt (w 1) p = true := by
            rw [← x1, xb_diff, Bool.and_eq_true, Bool.not_eq_true', Bool.not_eq_true]
          rw [this]
          rcases (show i = 0 ∨ i = 1 by omega) with e | e <;> subst e
          · exact Iff.rfl
          · exact Or.comm
        have xdis : ∀ p, ¬ (bt (w i) p = true ∧ bt (w (1 - i)) p = true) := by
          intro p h
          rcases (show i = 0 ∨ i = 1 by omega) with e | e <;> subst e
          · exact x2 p h
          · exact x2 p ⟨h.2, h.1⟩
        have hpart : ∀ p, bt X p = true ↔ bt (zz one C F S (n + 1) X i) p = true ∨ bt (zz one C F S (n + 1) X (1 - i)) p = true := by
          intro p
          rw [ei, eo, b_or, Bool.or_eq_true]
          constructor
          · intro h
            by_cases hb : bt B p = true
            · exact Or.inr (Or.inr hb)
            · exact ((xall p).mp ⟨h, hb⟩).imp id Or.inl
          · rintro (h | h | h)
            · exact ((xall p).mpr (Or.inl h)).1
            · exact ((xall p).mpr (Or.inr h)).1
            · exact hB.2.1 p h
        have hdis : ∀ p, ¬ (bt (zz one C F S (n + 1) X i) p = true ∧ bt (zz one C F S (n + 1) X (1 - i)) p = true) := by
          intro p h
          rw [ei, eo, b_or, Bool.or_eq_true] at h
          rcases h.2 with h2 | h2
          · exact xdis p ⟨h.1, h2⟩
          · exact ((xall p).mpr (Or.inl h.1)).2 h2
        have hwi : ∃ π, zw_W own col f s i π (fun p => bt (zz one C F S (n + 1) X i) p = true) (fun p => bt X p = true) := by
          rw [ei]
          obtain ⟨π, hπ⟩ := x3 i hi1
          exact ⟨π, zw_C hoi hB hπ⟩
        have hwo : ∃ π, zw_W own col f s (1 - i) π (fun p => bt (zz one C F S (n + 1) X (1 - i)) p = true) (fun p => bt X p = true) := by
          obtain ⟨π1, hπ1⟩ := y3 (1 - i) (by omega)
          rw [hlo] at hπ1
          obtain ⟨π2, hπ2⟩ := x3 (1 - i) (by omega)
          obtain ⟨π, hπ⟩ := zw_B hio hA hπ1 hB hπ2
          refine ⟨π, ?_⟩
          have eW : (fun p => bt (zz one C F S (n + 1) X (1 - i)) p = true) = (fun p => bt B p = true ∨ bt (w (1 - i)) p = true) := by
            funext p
            apply propext
            rw [eo, b_or, Bool.or_eq_true]
            exact Or.comm
          rw [eW]
          exact hπ
        rcases (show i = 0 ∨ i = 1 by omega) with e0 | e0
        · subst e0
          refine ⟨hpart, hdis, fun j hj => ?_⟩
          rcases (show j = 0 ∨ j = 1 by omega) with e1 | e1 <;> subst e1
          · exact hwi
          · exact hwo
        · subst e0
          refine ⟨fun p => (hpart p).trans Or.comm, fun p h => hdis p ⟨h.2, h.1⟩, fun j hj => ?_⟩
          rcases (show j = 0 ∨ j = 1 by omega) with e1 | e1 <;> subst e1
          · exact hwo
          · exact hwi
/-- what solving comes to -/
def sol (own col f s : Nat → Nat) (V : Nat → Int32) : Prop :=
  (∀ i, i ≤ 1 → ∀ p, bt (V i) p = true ↔ (p < 8 ∧ ∃ π, pg_win own col f s i π p)) ∧ (∀ i, i ≤ 1 → ∃ π, ∀ p, bt (V i) p = true → pg_win own col f s i π p) ∧ ∀ p, bt (V 1) p = true ↔ (p < 8 ∧ ¬ bt (V 0) p = true)
theorem zz_sol (hg : gv own col f s one C F S) {V : Nat → Int32} (h0 : V 0 = zz one C F S 8 255 0) (h1 : V 1 = zz one C F S 8 255 1) : sol own col f s V := by
  have har : zw_ar f s (fun p => bt 255 p = true) := by
    intro p hp
    refine ⟨f p, Or.inl rfl, ?_⟩
    exact (x255 _).mpr (hg.1 p ((x255 p).mp hp)).2.2.1
  obtain ⟨z1, z2, z3⟩ := zz_ok hg 8 255 (xsub_rf _) har (cd_le _)
  rw [← h0, ← h1] at z1 z2
  have e255 : (fun p => bt 255 p = true) = (fun p => p < 8) := by
    funext p
    exact propext (x255 p)
  have hV : ∀ i, i ≤ 1 → V i = zz one C F S 8 255 i := by
    intro i hi
    rcases (show i = 0 ∨ i = 1 by omega) with e | e <;> subst e <;> assumption
  have hw : ∀ i, i ≤ 1 → ∃ π, ∀ p, bt (V i) p = true → pg_win own col f s i π p := by
    intro i hi
    obtain ⟨π, hπ⟩ := z3 i hi
    rw [← hV i hi, e255] at hπ
    exact ⟨π, pg_of_W hg.1 hπ⟩
  have hlt : ∀ i, i ≤ 1 → ∀ p, bt (V i) p = true → p < 8 := by
    intro i hi p hp
    refine (x255 p).mp ((z1 p).mpr ?_)
    rcases (show i = 0 ∨ i = 1 by omega) with e | e <;> subst e
    · exact Or.inl hp
    · exact Or.inr hp
  refine ⟨fun i hi p => ⟨fun h => ⟨hlt i hi p h, ?_⟩, ?_⟩, hw, fun p => ⟨fun h => ⟨hlt 1 (Nat.le_refl 1) p h, fun h2 => z2 p ⟨h2, h⟩⟩, fun h => ?_⟩⟩
  · obtain ⟨π, hπ⟩ := hw i hi
    exact ⟨π, hπ p h⟩
  · rintro ⟨h8, π, hπ⟩
    apply Classical.byContradiction
    intro hn
    have ho : bt (V (1 - i)) p = true := by
      have := (z1 p).mp ((x255 p).mpr h8)
      rcases (show i = 0 ∨ i = 1 by omega) with e | e <;> subst e
      · exact this.resolve_left hn
      · exact this.resolve_right hn
    obtain ⟨π', hπ'⟩ := hw (1 - i) (by omega)
    exact pg_one hg.1 hi h8 hπ (hπ' p ho)
  · exact ((z1 p).mp ((x255 p).mpr h.1)).resolve_left h.2
end
end
section
/-! the turns of solve() come to the recursion: over any statement P of (turns, depth, level, stage, given, won) -/
section
variable {own col f s : Nat → Nat} {one : Int32} {C F S : Nat → Int32}
set_option maxHeartbeats 1000000 in
theorem zrun (hg : gv own col f s one C F S) (P : Nat → Nat → (Nat → Int32) → (Nat → Int32) → (Nat → Int32) → (Nat → Int32) → Prop)
    (hb0 : ∀ st j L T G V, st < 2000 → j < 11 → T j = 0 → L j = 0 → P (st + 1) j L T G (upd (upd V 0 0) 1 0) → P st (j + 1) L T G V)
    (hb1 : ∀ st j L T G V, st < 2000 → j < 11 → T j = 0 → ¬ L j = 0 → P (st + 1) (j + 2) (upd L (j + 1) (L j &&& (zA one C F S (L j) ^^^ (-1)))) (upd (upd T j 1) (j + 1) 0) G V → P st (j + 1) L T G V)
    (hg0 : ∀ st j L T G V, st < 2000 → j < 11 → T j = 1 → V (1 - pn (gre C (L j) 8)) = 0 → P (st + 1) j L T G (upd V (pn (gre C (L j) 8)) (L j)) → P st (j + 1) L T G V)
    (hg1 : ∀ st j L T G V, st < 2000 → j < 11 → T j = 1 → ¬ V (1 - pn (gre C (L j) 8)) = 0 → P (st + 1) (j + 2) (upd L (j + 1) (L j &&& (zB one C F S (L j) (V (1 - pn (gre C (L j) 8))) ^^^ (-1)))) (upd (upd T j 2) (j + 1) 0) (upd G j (zB one C F S (L j) (V (1 - pn (gre C (L j) 8))))) V → P st (j + 1) L T G V)
    (hf : ∀ st j L T G V, st < 2000 → j < 11 → T j = 2 → P (st + 1) j L T G (upd V (1 - pn (gre C (L j) 8)) (V (1 - pn (gre C (L j) 8)) ||| G j)) → P st (j + 1) L T G V) :
    ∀ (n : Nat) (X : Int32) (j st : Nat) (L T G V : Nat → Int32), xsub X 255 → zw_ar f s (fun p => bt X p = true) → cd X ≤ n → j + n ≤ 8 → st + 4 * 2 ^ n ≤ 2000 → L j = X → T j = 0 →
      (∀ st' L' T' G' V', st' + 3 ≤ st + 4 * 2 ^ n → (∀ i, i < j → L' i = L i ∧ T' i = T i ∧ G' i = G i) → V' 0 = zz one C F S n X 0 → V' 1 = zz one C F S n X 1 → P st' j L' T' G' V') → P st (j + 1) L T G V := by
  intro n
  induction n with
  | zero =>
    intro X j st L T G V hX har hc hj hst hL hT k
    have h0 : X = 0 := by
      rw [xb_eq0]
      intro p h
      have := cd_pos ((x255 p).mp (hX p h)) h
      omega
    refine hb0 st j L T G V (by omega) (by omega) hT (by rw [hL, h0]) (k _ _ _ _ _ (by omega) (fun _ _ => ⟨rfl, rfl, rfl⟩) ?_ ?_)
    · rw [pk_un (by omega), pk_us]; rfl
    · rw [pk_us]; rfl
  | succ n ih =>
    intro X j st L T G V hX har hc hj hst hL hT k
    have hp2 : 2 ^ (n + 1) = 2 * 2 ^ n := by rw [Nat.pow_succ]; omega
    have hp1 : 1 ≤ 2 ^ n := Nat.one_le_two_pow
    rw [hp2] at hst k
    generalize 2 ^ n = w at hst k hp1 ih
    by_cases h0 : X = 0
    · have ez : zz one C F S (n + 1) X = fun _ => 0 := if_pos h0
      refine hb0 st j L T G V (by omega) (by omega) hT (by rw [hL, h0]) (k _ _ _ _ _ (by omega) (fun _ _ => ⟨rfl, rfl, rfl⟩) ?_ ?_)
      · rw [pk_un (by omega), pk_us, ez]
      · rw [pk_us, ez]
    · obtain ⟨d, hd5, hpn, hmax, hTb, hTX, hT0⟩ := zA_at hg hX h0
      have hi2 := pn_lt (gre C X 8)
      generalize hi : pn (gre C X 8) = i at hpn hi2
      have hA := fro_at hg (i := i) (by omega) hX hTX hT0
      have eA : zA one C F S X = fro one F S (nI i) X 9 (wcl C X (gre C X 8) 8) 0 := by unfold zA; rw [hi]
      rw [← eA] at hA
      have harY := zw_rest har hA
      have hcY := cd_diff hX hA.1 hA.2.1 hT0
      have hYX : xsub (X &&& (zA one C F S X ^^^ (-1))) 255 := xsub_trans (xsub_diff _ _) hX
      rw [← bits_diff] at harY
      have hYok := zz_ok hg n _ hYX harY (by omega)
      refine hb1 st j L T G V (by omega) (by omega) hT (by rw [hL]; exact h0) ?_
      refine ih (X &&& (zA one C F S X ^^^ (-1))) (j + 1) (st + 1) _ _ _ _ hYX harY (by omega) (by omega) (by omega) (by rw [pk_us, hL]) (by rw [pk_us]) ?_
      intro st' L' T' G' V' hst' hag hV0 hV1
      have hLj : L' j = X := by rw [(hag j (by omega)).1, pk_un (by omega), hL]
      have hTj : T' j = 1 := by rw [(hag j (by omega)).2.1, pk_un (by omega), pk_us]
      have hag2 : ∀ i, i < j → L' i = L i ∧ T' i = T i ∧ G' i = G i := by
        intro i hi
        obtain ⟨q1, q2, q3⟩ := hag i (by omega)
        rw [pk_un (by omega)] at q1
        rw [pk_un (by omega), pk_un (by omega)] at q2
        exact ⟨q1, q2, q3⟩
      have hVi : ∀ a, a ≤ 1 → V' a = zz one C F S n (X &&& (zA one C F S X ^^^ (-1))) a := by
        intro a ha
        rcases (show a = 0 ∨ a = 1 by omega) with e | e <;> subst e <;> assumption
      have eo : V' (1 - i) = zz one C F S n (X &&& (zA one C F S X ^^^ (-1))) (1 - i) := hVi _ (by omega)
      by_cases hl : V' (1 - i) = 0
      · have ez : zz one C F S (n + 1) X = upd (zz one C F S n (X &&& (zA one C F S X ^^^ (-1)))) i X := by
          show (if X = 0 then _ else if _ then _ else _) = _
          rw [if_neg h0, hi, ← eo, if_pos hl]
        refine hg0 st' j L' T' G' V' (by omega) (by omega) hTj (by rw [hLj, hi]; exact hl) (k _ _ _ _ _ (by omega) hag2 ?_ ?_)
        · rw [hLj, hi, ez]
          rcases (show i = 0 ∨ i = 1 by omega) with e | e <;> subst e
          · rw [pk_us, pk_us]
          · rw [pk_un (by omega), pk_un (by omega), hV0]
        · rw [hLj, hi, ez]
          rcases (show i = 0 ∨ i = 1 by omega) with e | e <;> subst e
          · rw [pk_un (by omega), pk_un (by omega), hV1]
          · rw [pk_us, pk_us]
      · generalize hlo : V' (1 - i) = lost at hl eo
        have hlX : xsub lost X := by
          intro p h
          rw [eo] at h
          refine xsub_diff X (zA one C F S X) p ((hYok.1 p).mpr ?_)
          rcases (show i = 0 ∨ i = 1 by omega) with e | e <;> subst e
          · exact Or.inr h
          · exact Or.inl h
        have hB := fro_at hg (i := 1 - i) (by omega) hX hlX hl
        have eB : zB one C F S X lost = fro one F S (nI (1 - i)) X 9 lost 0 := by unfold zB; rw [hi]
        rw [← eB] at hB
        have harX := zw_rest har hB
        have hcX := cd_diff hX hB.1 hB.2.1 hl
        have hXX : xsub (X &&& (zB one C F S X lost ^^^ (-1))) 255 := xsub_trans (xsub_diff _ _) hX
        rw [← bits_diff] at harX
        have ez : zz one C F S (n + 1) X = upd (zz one C F S n (X &&& (zB one C F S X lost ^^^ (-1)))) (1 - i) (zz one C F S n (X &&& (zB one C F S X lost ^^^ (-1))) (1 - i) ||| zB one C F S X lost) := by
          show (if X = 0 then _ else if _ then _ else _) = _
          rw [if_neg h0, hi, ← eo, if_neg hl]
        refine hg1 st' j L' T' G' V' (by omega) (by omega) hTj (by rw [hLj, hi, hlo]; exact hl) ?_
        rw [hLj, hi, hlo]
        refine ih (X &&& (zB one C F S X lost ^^^ (-1))) (j + 1) (st' + 1) _ _ _ _ hXX harX (by omega) (by omega) (by omega) (by rw [pk_us]) (by rw [pk_us]) ?_
        intro st2 L2 T2 G2 V2 hst2 hag3 hW0 hW1
        have hLj2 : L2 j = X := by rw [(hag3 j (by omega)).1, pk_un (by omega), hLj]
        have hTj2 : T2 j = 2 := by rw [(hag3 j (by omega)).2.1, pk_un (by omega), pk_us]
        have hGj2 : G2 j = zB one C F S X lost := by rw [(hag3 j (by omega)).2.2, pk_us]
        have hag4 : ∀ i, i < j → L2 i = L i ∧ T2 i = T i ∧ G2 i = G i := by
          intro i hi
          obtain ⟨q1, q2, q3⟩ := hag3 i (by omega)
          obtain ⟨r1, r2, r3⟩ := hag2 i hi
          rw [pk_un (by omega)] at q1
          rw [pk_un (by omega), pk_un (by omega)] at q2
          rw [pk_un (by omega)] at q3
          exact ⟨q1.trans r1, q2.trans r2, q3.trans r3⟩
        refine hf st2 j L2 T2 G2 V2 (by omega) (by omega) hTj2 (k _ _ _ _ _ (by omega) hag4 ?_ ?_)
        · rw [hLj2, hi, hGj2, ez]
          rcases (show i = 0 ∨ i = 1 by omega) with e | e <;> subst e
          · rw [pk_un (by omega), pk_un (by omega), hW0]
          · rw [pk_us, pk_us, hW0]
        · rw [hLj2, hi, hGj2, ez]
          rcases (show i = 0 ∨ i = 1 by omega) with e | e <;> subst e
          · rw [pk_us, pk_us, hW1]
          · rw [pk_un (by omega), pk_un (by omega), hW1]
end
end
section
/-! plans, plainly: masks by a loop, the closure, circles, what is good -/
/-- a mask made by a loop -/
noncomputable def pm (P : Nat → Prop) (x0 : Int32) : Nat → Int32
  | 0 => x0
  | k + 1 => @ite _ (P k) (Classical.propDecidable _) (sb (pm P x0 k) k) (pm P x0 k)
theorem pm_t {P : Nat → Prop} {x0 : Int32} {k : Nat} (h : P k) : pm P x0 (k + 1) = sb (pm P x0 k) k := if_pos h
theorem pm_f {P : Nat → Prop} {x0 : Int32} {k : Nat} (h : ¬ P k) : pm P x0 (k + 1) = pm P x0 k := if_neg h
theorem pm_bits (P : Nat → Prop) (x0 : Int32) : ∀ k, k ≤ 8 → ∀ i, bt (pm P x0 k) i = true ↔ (bt x0 i = true ∨ (i < k ∧ P i)) := by
  intro k
  induction k with
  | zero => intro _ i; exact ⟨Or.inl, fun h => h.elim id (fun h => absurd h.1 (Nat.not_lt_zero _))⟩
  | succ k ih =>
    intro hk i
    have ih := ih (by omega) i
    by_cases h : P k
    · rw [pm_t h, xb_sb _ k (by omega), Bool.or_eq_true, ih, decide_eq_true_iff]
      constructor
      · rintro ((h1 | ⟨h1, h2⟩) | h1)
        · exact Or.inl h1
        · exact Or.inr ⟨by omega, h2⟩
        · subst h1; exact Or.inr ⟨by omega, h⟩
      · rintro (h1 | ⟨h1, h2⟩)
        · exact Or.inl (Or.inl h1)
        · by_cases e : i = k
          · exact Or.inr e
          · exact Or.inl (Or.inr ⟨by omega, h2⟩)
    · rw [pm_f h, ih]
      constructor
      · rintro (h1 | ⟨h1, h2⟩)
        · exact Or.inl h1
        · exact Or.inr ⟨by omega, h2⟩
      · rintro (h1 | ⟨h1, h2⟩)
        · exact Or.inl h1
        · by_cases e : i = k
          · subst e; exact absurd h2 h
          · exact Or.inr ⟨by omega, h2⟩
theorem pm_bits0 (P : Nat → Prop) (i : Nat) : bt (pm P 0 8) i = true ↔ (i < 8 ∧ P i) := by
  rw [pm_bits P 0 8 (Nat.le_refl 8), b_0]
  exact ⟨fun h => h.elim (fun h => by cases h) id, Or.inr⟩
/-! the closure -/
def wsi (R : Nat → Int32) (k : Nat) : Nat → (Nat → Int32)
  | 0 => R
  | p + 1 => if bt (wsi R k p p) k = true then upd (wsi R k p) p (wsi R k p p ||| wsi R k p k) else wsi R k p
def wsh (R : Nat → Int32) : Nat → (Nat → Int32)
  | 0 => R
  | k + 1 => wsi (wsh R k) k 8
theorem wsi_t {R : Nat → Int32} {k p : Nat} (h : bt (wsi R k p p) k = true) : wsi R k (p + 1) = upd (wsi R k p) p (wsi R k p p ||| wsi R k p k) := if_pos h
theorem wsi_f {R : Nat → Int32} {k p : Nat} (h : ¬ bt (wsi R k p p) k = true) : wsi R k (p + 1) = wsi R k p := if_neg h
theorem wsi_bits (R : Nat → Int32) (k : Nat) : ∀ p x q, bt (wsi R k p x) q = true ↔ (bt (R x) q = true ∨ (x < p ∧ bt (R x) k = true ∧ bt (R k) q = true)) := by
  intro p
  induction p with
  | zero => intro x q; exact ⟨Or.inl, fun h => h.elim id (fun h => absurd h.1 (Nat.not_lt_zero _))⟩
  | succ p ih =>
    intro x q
    have hk : ∀ q, bt (wsi R k p k) q = true ↔ bt (R k) q = true := by
      intro q
      rw [ih]
      exact ⟨fun h => h.elim id (fun h => h.2.2), Or.inl⟩
    have hp : ∀ q, bt (wsi R k p p) q = true ↔ bt (R p) q = true := by
      intro q
      rw [ih]
      exact ⟨fun h => h.elim id (fun h => absurd h.1 (Nat.lt_irrefl _)), Or.inl⟩
    by_cases h : bt (wsi R k p p) k = true
    · rw [wsi_t h]
      rw [hp] at h
      by_cases e : x = p
      · subst e
        rw [pk_us, b_or, Bool.or_eq_true, hp, hk]
        constructor
        · rintro (h1 | h1)
          · exact Or.inl h1
          · exact Or.inr ⟨by omega, h, h1⟩
        · rintro (h1 | ⟨_, _, h1⟩)
          · exact Or.inl h1
          · exact Or.inr h1
      · rw [pk_un e, ih]
        constructor
        · rintro (h1 | ⟨h1, h2⟩)
          · exact Or.inl h1
          · exact Or.inr ⟨by omega, h2⟩
        · rintro (h1 | ⟨h1, h2⟩)
          · exact Or.inl h1
          · exact Or.inr ⟨by omega, h2⟩
    · rw [wsi_f h, ih]
      rw [hp] at h
      constructor
      · rintro (h1 | ⟨h1, h2⟩)
        · exact Or.inl h1
        · exact Or.inr ⟨by omega, h2⟩
      · rintro (h1 | ⟨h1, h2⟩)
        · exact Or.inl h1
        · by_cases e : x = p
          · subst e; exact absurd h2.1 h
          · exact Or.inr ⟨by omega, h2⟩
theorem wsh_s (R : Nat → Int32) (k x q : Nat) : bt (wsh R (k + 1) x) q = true ↔ (bt (wsh R k x) q = true ∨ (x < 8 ∧ bt (wsh R k x) k = true ∧ bt (wsh R k k) q = true)) := wsi_bits (wsh R k) k 8 x q
theorem wsh_piv (R : Nat → Int32) : ∀ k, k ≤ 8 → ∀ i x q, i < k → x < 8 → bt (wsh R k x) i = true → bt (wsh R k i) q = true → bt (wsh R k x) q = true := by
  intro k
  induction k with
  | zero => intro _ i x q h; exact absurd h (Nat.not_lt_zero _)
  | succ k ih =>
    intro hk8 i x q hi hx h1 h2
    rw [wsh_s] at h1 h2 ⊢
    by_cases e : i = k
    · subst e
      have a1 : bt (wsh R i x) i = true := h1.elim id (fun h => h.2.1)
      have a2 : bt (wsh R i i) q = true := h2.elim id (fun h => h.2.2)
      exact Or.inr ⟨hx, a1, a2⟩
    · have hi2 : i < k := by omega
      have ih := ih (by omega) i
      rcases h1 with h1 | ⟨_, h1, h3⟩
      · rcases h2 with h2 | ⟨_, h2, h4⟩
        · exact Or.inl (ih x q hi2 hx h1 h2)
        · exact Or.inr ⟨hx, ih x k hi2 hx h1 h2, h4⟩
      · rcases h2 with h2 | ⟨_, h2, h4⟩
        · exact Or.inr ⟨hx, h1, ih k q hi2 (by omega) h3 h2⟩
        · exact Or.inr ⟨hx, h1, h4⟩
theorem wsh_ge (R : Nat → Int32) : ∀ k x q, bt (R x) q = true → bt (wsh R k x) q = true := by
  intro k
  induction k with
  | zero => intro x q h; exact h
  | succ k ih => intro x q h; rw [wsh_s]; exact Or.inl (ih x q h)
theorem wsh_snd {r : Nat → Nat → Prop} (R : Nat → Int32) (hR : ∀ x q, x < 8 → bt (R x) q = true → r x q) : ∀ k, k ≤ 8 → ∀ x q, x < 8 → bt (wsh R k x) q = true → Relation.TransGen r x q := by
  intro k
  induction k with
  | zero => intro _ x q hx h; exact .single (hR x q hx h)
  | succ k ih =>
    intro hk x q hx h
    rw [wsh_s] at h
    rcases h with h | ⟨_, h1, h2⟩
    · exact ih (by omega) x q hx h
    · exact (ih (by omega) x k hx h1).trans (ih (by omega) k q (by omega) h2)
theorem wsh_main {r : Nat → Nat → Prop} (R : Nat → Int32) (hR : ∀ x q, x < 8 → (bt (R x) q = true ↔ r x q)) (hr : ∀ x q, r x q → x < 8) : ∀ x q, x < 8 → (bt (wsh R 8 x) q = true ↔ Relation.TransGen r x q) := by
  intro x q hx
  constructor
  · exact wsh_snd R (fun x q hx h => (hR x q hx).mp h) 8 (Nat.le_refl 8) x q hx
  · intro t
    induction t with
    | single h => exact wsh_ge R 8 _ _ ((hR _ _ hx).mpr h)
    | tail t h ih => exact wsh_piv R 8 (Nat.le_refl 8) _ _ _ (hr _ _ h) hx ih (wsh_ge R 8 _ _ ((hR _ _ (hr _ _ h)).mpr h))
/-! the ways along a plan -/
def mvb (one : Int32) (F S : Nat → Int32) (player ch : Int32) (k : Nat) : Int32 := if ow one k = player then (if bt ch k = true then (1 : Int32) <<< (S k &&& 31) else (1 : Int32) <<< (F k &&& 31)) else mvs F S k
noncomputable def low (C : Nat → Int32) (set bound : Int32) : Int32 := pm (fun k => bt set k = true ∧ C k ≤ bound) 0 8
noncomputable def row (one : Int32) (C F S : Nat → Int32) (player ch bound : Int32) (k : Nat) : Int32 := if C k ≤ bound then low C (mvb one F S player ch k) bound else 0
noncomputable def cls (one : Int32) (C F S : Nat → Int32) (player ch bound : Int32) (R : Nat → Int32) : Nat → (Nat → Int32)
  | 0 => R
  | k + 1 => upd (cls one C F S player ch bound R k) k (row one C F S player ch bound k)
/-- the model's state holds this game -/
def tv (own col f s : Nat → Nat) (O C F S : Nat → Int32) : Prop := pg_ok own col f s ∧ ∀ p, p < 8 → O p = nI (own p) ∧ C p = nI (col p) ∧ F p = nI (f p) ∧ S p = nI (s p)
def tmv (O F S : Nat → Int32) (player ch : Int32) (k : Nat) : Int32 := if O k = player then (if bt ch k = true then (1 : Int32) <<< (S k &&& 31) else (1 : Int32) <<< (F k &&& 31)) else mvs F S k
noncomputable def may (C : Nat → Int32) (most : Int32) : Int32 := pm (fun k => C k ≤ most) 0 8
noncomputable def trow (O C F S : Nat → Int32) (player ch most : Int32) (k : Nat) : Int32 := if C k ≤ most then tmv O F S player ch k &&& may C most else 0
noncomputable def tcl (O C F S : Nat → Int32) (player ch most : Int32) (R : Nat → Int32) : Nat → (Nat → Int32)
  | 0 => R
  | k + 1 => upd (tcl O C F S player ch most R k) k (trow O C F S player ch most k)
theorem upd_upd (f : Nat → Int32) (k : Nat) (x y : Int32) : upd (upd f k x) k y = upd f k y := by
  funext j
  by_cases h : j = k
  · subst h; rw [pk_us, pk_us]
  · rw [pk_un h, pk_un h, pk_un h]
section
variable {own col f s : Nat → Nat} {one : Int32} {O C F S : Nat → Int32}
theorem tmv_bits (hg : tv own col f s O C F S) {p i : Nat} (hp : p < 8) (hi : i ≤ 1) (ch : Int32) (q : Nat) : bt (tmv O F S (nI i) ch p) q = true ↔ pg_m own f s i (bt ch) p q := by
  obtain ⟨h0, _, h1, h2⟩ := hg.1 p hp
  obtain ⟨h3, _, h4, h5⟩ := hg.2 p hp
  have ho : O p = nI i ↔ own p = i := by rw [h3, nI_eq (by omega) (by omega)]
  unfold tmv pg_m pg_t pg_tb
  by_cases h : own p = i
  · rw [if_pos (ho.mpr h)]
    by_cases hc : bt ch p = true
    · rw [if_pos hc, if_pos hc, h5, xb_one _ (by omega), decide_eq_true_iff]
      exact ⟨fun e => Or.inl ⟨h, e⟩, fun e => e.elim (fun e => e.2) (fun e => absurd h e.1)⟩
    · rw [if_neg hc, if_neg hc, h4, xb_one _ (by omega), decide_eq_true_iff]
      exact ⟨fun e => Or.inl ⟨h, e⟩, fun e => e.elim (fun e => e.2) (fun e => absurd h e.1)⟩
  · rw [if_neg (fun e => h (ho.mp e))]
    unfold mvs pg_e
    rw [h4, h5, b_or, xb_one _ (by omega), xb_one _ (by omega), Bool.or_eq_true, decide_eq_true_iff, decide_eq_true_iff]
    exact ⟨fun e => Or.inr ⟨h, e⟩, fun e => e.elim (fun e => absurd e.1 h) (fun e => e.2)⟩
theorem gv_tv (hg : gv own col f s one C F S) : tv own col f s (ow one) C F S := hg
theorem pg_m_lt (hok : pg_ok own col f s) {i p q : Nat} {π : Nat → Bool} (hp : p < 8) (h : pg_m own f s i π p q) : q < 8 := by
  obtain ⟨_, _, h1, h2⟩ := hok p hp
  rcases pg_m_e h with e | e <;> rw [e] <;> assumption
theorem row_bits (hg : gv own col f s one C F S) {p i c : Nat} (hp : p < 8) (hi : i ≤ 1) (hc : c ≤ 5) (ch : Int32) (q : Nat) : bt (row one C F S (nI i) ch (nI c) p) q = true ↔ pg_R own col f s i (bt ch) c p q := by
  have hcol : ∀ x, x < 8 → (C x ≤ nI c ↔ col x ≤ c) := fun x hx => by
    rw [(hg.2 x hx).2.1, nI_leI (by have := (hg.1 x hx).2.1; omega) (by omega)]
  have hm : mvb one F S (nI i) ch p = tmv (ow one) F S (nI i) ch p := rfl
  unfold row pg_R
  by_cases h : col p ≤ c
  · rw [if_pos ((hcol p hp).mpr h)]
    unfold low
    rw [pm_bits0, hm, tmv_bits (gv_tv hg) hp hi]
    constructor
    · rintro ⟨h1, h2, h3⟩
      exact ⟨hp, h, (hcol q h1).mp h3, h2⟩
    · rintro ⟨_, _, h3, h4⟩
      have hq := pg_m_lt hg.1 hp h4
      exact ⟨hq, h4, (hcol q hq).mpr h3⟩
  · rw [if_neg (fun e => h ((hcol p hp).mp e)), b_0]
    exact ⟨fun e => (by cases e), fun e => absurd e.2.1 h⟩
theorem trow_bits (hg : tv own col f s O C F S) {p i c : Nat} (hp : p < 8) (hi : i ≤ 1) (hc : c ≤ 5) (ch : Int32) (q : Nat) : bt (trow O C F S (nI i) ch (nI c) p) q = true ↔ pg_R own col f s i (bt ch) c p q := by
  have hcol : ∀ x, x < 8 → (C x ≤ nI c ↔ col x ≤ c) := fun x hx => by
    rw [(hg.2 x hx).2.1, nI_leI (by have := (hg.1 x hx).2.1; omega) (by omega)]
  unfold trow pg_R
  by_cases h : col p ≤ c
  · rw [if_pos ((hcol p hp).mpr h)]
    unfold may
    rw [b_and, Bool.and_eq_true, pm_bits0, tmv_bits hg hp hi]
    constructor
    · rintro ⟨h1, h2, h3⟩
      exact ⟨hp, h, (hcol q h2).mp h3, h1⟩
    · rintro ⟨_, _, h3, h4⟩
      have hq := pg_m_lt hg.1 hp h4
      exact ⟨h4, hq, (hcol q hq).mpr h3⟩
  · rw [if_neg (fun e => h ((hcol p hp).mp e)), b_0]
    exact ⟨fun e => (by cases e), fun e => absurd e.2.1 h⟩
theorem cls_at (player ch bound : Int32) (R : Nat → Int32) : ∀ k x, x < k → cls one C F S player ch bound R k x = row one C F S player ch bound x := by
  intro k
  induction k with
  | zero => intro x h; exact absurd h (Nat.not_lt_zero _)
  | succ k ih =>
    intro x h
    show upd _ _ _ x = _
    by_cases e : x = k
    · subst e; rw [pk_us]
    · rw [pk_un e, ih x (by omega)]
theorem tcl_at (player ch most : Int32) (R : Nat → Int32) : ∀ k x, x < k → tcl O C F S player ch most R k x = trow O C F S player ch most x := by
  intro k
  induction k with
  | zero => intro x h; exact absurd h (Nat.not_lt_zero _)
  | succ k ih =>
    intro x h
    show upd _ _ _ x = _
    by_cases e : x = k
    · subst e; rw [pk_us]
    · rw [pk_un e, ih x (by omega)]
/-- the rows hold what can be come to along a plan over colours up to c -/
def rch (own col f s : Nat → Nat) (i : Nat) (ch : Int32) (c : Nat) (R : Nat → Int32) : Prop := ∀ x q, x < 8 → (bt (R x) q = true ↔ Relation.TransGen (pg_R own col f s i (bt ch) c) x q)
theorem cls_rch (hg : gv own col f s one C F S) {i c : Nat} (hi : i ≤ 1) (hc : c ≤ 5) (ch : Int32) (R : Nat → Int32) : rch own col f s i ch c (wsh (cls one C F S (nI i) ch (nI c) R 8) 8) :=
  wsh_main _ (fun x q hx => by rw [cls_at _ _ _ _ 8 x hx]; exact row_bits hg hx hi hc ch q) (fun x q h => h.1)
theorem tcl_rch (hg : tv own col f s O C F S) {i c : Nat} (hi : i ≤ 1) (hc : c ≤ 5) (ch : Int32) (R : Nat → Int32) : rch own col f s i ch c (wsh (tcl O C F S (nI i) ch (nI c) R 8) 8) :=
  wsh_main _ (fun x q hx => by rw [tcl_at _ _ _ _ 8 x hx]; exact trow_bits hg hx hi hc ch q) (fun x q h => h.1)
/-- the circles found with the first m colours of the other player -/
def bcs (own col f s : Nat → Nat) (i : Nat) (ch : Int32) (m : Nat) (set : Int32) : Prop := ∀ p, bt set p = true ↔ (p < 8 ∧ ∃ t, t < m ∧ col p = 1 - i + 2 * t ∧ Relation.TransGen (pg_R own col f s i (bt ch) (1 - i + 2 * t)) p p)
theorem bcs_0 (i : Nat) (ch : Int32) : bcs own col f s i ch 0 0 := by
  intro p
  rw [b_0]
  exact ⟨fun e => (by cases e), fun ⟨_, t, h, _⟩ => absurd h (Nat.not_lt_zero _)⟩
theorem bcs_s {i m : Nat} {ch set : Int32} {R : Nat → Int32} (hi : i ≤ 1) (hm : m < 3) (hcol : ∀ p, p < 8 → C p = nI (col p)) (hok : pg_ok own col f s) (h : bcs own col f s i ch m set) (hR : rch own col f s i ch (1 - i + 2 * m) R) :
    bcs own col f s i ch (m + 1) (pm (fun k => C k = nI (1 - i + 2 * m) ∧ bt (R k) k = true) set 8) := by
  intro p
  rw [pm_bits _ _ 8 (Nat.le_refl 8), h p]
  constructor
  · rintro (⟨h1, t, h2, h3⟩ | ⟨h1, h2, h3⟩)
    · exact ⟨h1, t, by omega, h3⟩
    · rw [hcol p h1, nI_eq (by have := (hok p h1).2.1; omega) (by omega)] at h2
      exact ⟨h1, m, by omega, h2, (hR p p h1).mp h3⟩
  · rintro ⟨h1, t, h2, h3, h4⟩
    by_cases e : t = m
    · subst e
      exact Or.inr ⟨h1, by rw [hcol p h1, h3], (hR p p h1).mpr h4⟩
    · exact Or.inl ⟨h1, t, by omega, h3, h4⟩
theorem bcs_bad {i : Nat} {ch set : Int32} (hi : i ≤ 1) (h : bcs own col f s i ch 3 set) (p : Nat) : bt set p = true ↔ (p < 8 ∧ pg_bad own col f s i (bt ch) p) := by
  rw [h p]
  constructor
  · rintro ⟨h1, t, h2, h3, h4⟩
    exact ⟨h1, 1 - i + 2 * t, by omega, by omega, h3, h4⟩
  · rintro ⟨h1, c, h2, h3, h4, h5⟩
    have e : c = 1 - i + 2 * ((c - (1 - i)) / 2) := by omega
    exact ⟨h1, (c - (1 - i)) / 2, by omega, by omega, by rw [← e]; exact h5⟩
theorem win_bits {i : Nat} {ch set : Int32} {R : Nat → Int32} (hb : ∀ p, bt set p = true ↔ (p < 8 ∧ pg_bad own col f s i (bt ch) p)) (hok : pg_ok own col f s) (hR : rch own col f s i ch 5 R) {p : Nat} (hp : p < 8) : ((R p ||| ((1 : Int32) <<< (nI p &&& 31))) &&& set = 0 ↔ pg_win own col f s i (bt ch) p) := by
  rw [xb_eq0]
  have hlt : ∀ q, Relation.TransGen (pg_R own col f s i (bt ch) 5) p q → q < 8 := by
    intro q t
    cases t with
    | single h => exact pg_m_lt hok h.1 h.2.2.2
    | tail _ h => exact pg_m_lt hok h.1 h.2.2.2
  constructor
  · intro h
    refine ⟨fun hbad => ?_, fun q t hbad => ?_⟩
    · refine h p ?_
      rw [b_and, b_or, Bool.and_eq_true, Bool.or_eq_true, xb_one p (by omega), decide_eq_true_iff]
      exact ⟨Or.inr rfl, (hb p).mpr ⟨hp, hbad⟩⟩
    · refine h q ?_
      rw [b_and, b_or, Bool.and_eq_true, Bool.or_eq_true, xb_one p (by omega), decide_eq_true_iff]
      exact ⟨Or.inl ((hR p q hp).mpr t), (hb q).mpr ⟨hlt q t, hbad⟩⟩
  · intro h q hq
    rw [b_and, b_or, Bool.and_eq_true, Bool.or_eq_true, xb_one p (by omega), decide_eq_true_iff, hb] at hq
    obtain ⟨h1 | h1, _, h2⟩ := hq
    · exact h.2 q ((hR p q hp).mp h1) h2
    · subst h1; exact h.1 h2
theorem win_bits2 {i : Nat} {ch set : Int32} {R : Nat → Int32} (hb : ∀ p, bt set p = true ↔ (p < 8 ∧ pg_bad own col f s i (bt ch) p)) (hok : pg_ok own col f s) (hR : rch own col f s i ch 5 R) {p : Nat} (hp : p < 8) : ((¬ bt set p = true ∧ R p &&& set = 0) ↔ pg_win own col f s i (bt ch) p) := by
  rw [← win_bits hb hok hR hp, xb_eq0, xb_eq0]
  constructor
  · rintro ⟨h1, h2⟩ q hq
    rw [b_and, b_or, Bool.and_eq_true, Bool.or_eq_true, xb_one p (by omega), decide_eq_true_iff] at hq
    obtain ⟨h3 | h3, h4⟩ := hq
    · exact h2 q (by rw [b_and, Bool.and_eq_true]; exact ⟨h3, h4⟩)
    · subst h3; exact h1 h4
  · intro h
    refine ⟨fun h1 => h p ?_, fun q h1 => h q ?_⟩
    · rw [b_and, b_or, Bool.and_eq_true, Bool.or_eq_true, xb_one p (by omega), decide_eq_true_iff]
      exact ⟨Or.inr rfl, h1⟩
    · rw [b_and, Bool.and_eq_true] at h1
      rw [b_and, b_or, Bool.and_eq_true, Bool.or_eq_true]
      exact ⟨Or.inl h1.1, h1.2⟩
/-- a plan is good: it wins from all that its player can win from -/
def gd (own col f s : Nat → Nat) (i : Nat) (ch : Int32) : Prop := ∀ p, p < 8 → (∃ π, pg_win own col f s i π p) → pg_win own col f s i (bt ch) p
/-- the first player's region, as a mask -/
def rgn (own col f s : Nat → Nat) (x : Int32) : Prop := ∀ p, bt x p = true ↔ (p < 8 ∧ ∃ π, pg_win own col f s 0 π p)
theorem rgn_same {x y : Int32} (hx : rgn own col f s x) (hy : rgn own col f s y) : x = y := xb_same hx hy
set_option maxHeartbeats 1000000 in
theorem mk8 : ∀ b0 b1 b2 b3 b4 b5 b6 b7 : Bool, ∀ i, i < 32 → bt (nI (b0.toNat + 2 * b1.toNat + 4 * b2.toNat + 8 * b3.toNat + 16 * b4.toNat + 32 * b5.toNat + 64 * b6.toNat + 128 * b7.toNat)) i = ([b0, b1, b2, b3, b4, b5, b6, b7][i]?.getD false) := by decide +kernel
theorem mk_mask (b : Nat → Bool) : ∃ c, c < 256 ∧ ∀ i, bt (nI c) i = (decide (i < 8) && b i) := by
  refine ⟨(b 0).toNat + 2 * (b 1).toNat + 4 * (b 2).toNat + 8 * (b 3).toNat + 16 * (b 4).toNat + 32 * (b 5).toNat + 64 * (b 6).toNat + 128 * (b 7).toNat, ?_, fun i => ?_⟩
  · have := Bool.toNat_le (b 0); have := Bool.toNat_le (b 1); have := Bool.toNat_le (b 2); have := Bool.toNat_le (b 3)
    have := Bool.toNat_le (b 4); have := Bool.toNat_le (b 5); have := Bool.toNat_le (b 6); have := Bool.toNat_le (b 7)
    omega
  · rcases Nat.lt_or_ge i 32 with h | h
    · rw [mk8 _ _ _ _ _ _ _ _ i h]
      rcases Nat.lt_or_ge i 8 with h8 | h8
      · rw [decide_eq_true h8, Bool.true_and]
        rcases (show i = 0 ∨ i = 1 ∨ i = 2 ∨ i = 3 ∨ i = 4 ∨ i = 5 ∨ i = 6 ∨ i = 7 by omega) with e | e | e | e | e | e | e | e <;> subst e <;> rfl
      · rw [decide_eq_false (by omega), Bool.false_and, List.getElem?_eq_none (by simpa using h8)]; rfl
    · rw [b_big h, decide_eq_false (by omega), Bool.false_and]
/-- a plan as a number below 256, with bits of its player's positions alone -/
theorem plan_num {i p : Nat} {π : Nat → Bool} (h : pg_win own col f s i π p) : ∃ c, c < 256 ∧ (∀ q, bt (nI c) q = true → q < 8 ∧ own q = i) ∧ pg_win own col f s i (bt (nI c)) p := by
  obtain ⟨c, h1, h2⟩ := mk_mask (fun q => π q && decide (own q = i))
  refine ⟨c, h1, fun q hq => ?_, pg_win_eq (fun q h8 ho => ?_) h⟩
  · rw [h2, Bool.and_eq_true, Bool.and_eq_true, decide_eq_true_iff, decide_eq_true_iff] at hq
    exact ⟨hq.1, hq.2.2⟩
  · rw [h2, decide_eq_true h8, decide_eq_true ho, Bool.and_true, Bool.true_and]
/-- one number that is good -/
theorem gd_num {V : Nat → Int32} (h : sol own col f s V) {i : Nat} (hi : i ≤ 1) : ∃ c, c < 256 ∧ gd own col f s i (nI c) := by
  obtain ⟨π, hπ⟩ := h.2.1 i hi
  obtain ⟨c, h1, h2⟩ := mk_mask (fun q => π q)
  refine ⟨c, h1, fun p hp hex => pg_win_eq (fun q h8 _ => ?_) (hπ p ((h.1 i hi p).mpr ⟨hp, hex⟩))⟩
  rw [h2, decide_eq_true h8, Bool.true_and]
/-- what the model's search over the numbers below k has come to -/
def srch (own col f s : Nat → Nat) (mine : Int32) (k : Nat) (won : Int32) : Prop := ∀ p, bt won p = true ↔ (p < 8 ∧ ∃ c, c < k ∧ nI c &&& (mine ^^^ (-1)) = 0 ∧ pg_win own col f s 0 (bt (nI c)) p)
theorem srch_0 (mine : Int32) : srch own col f s mine 0 0 := by
  intro p
  rw [b_0]
  exact ⟨fun e => (by cases e), fun ⟨_, t, h, _⟩ => absurd h (Nat.not_lt_zero _)⟩
theorem srch_t {mine won more : Int32} {k : Nat} (h : srch own col f s mine k won) (hm : nI k &&& (mine ^^^ (-1)) = 0) (hmore : ∀ p, bt more p = true ↔ (p < 8 ∧ pg_win own col f s 0 (bt (nI k)) p)) : srch own col f s mine (k + 1) (won ||| more) := by
  intro p
  rw [b_or, Bool.or_eq_true, h p, hmore p]
  constructor
  · rintro (⟨h1, c, h2, h3⟩ | ⟨h1, h2⟩)
    · exact ⟨h1, c, by omega, h3⟩
    · exact ⟨h1, k, by omega, hm, h2⟩
  · rintro ⟨h1, c, h2, h3, h4⟩
    by_cases e : c = k
    · subst e; exact Or.inr ⟨h1, h4⟩
    · exact Or.inl ⟨h1, c, by omega, h3, h4⟩
theorem srch_f {mine won : Int32} {k : Nat} (h : srch own col f s mine k won) (hm : ¬ nI k &&& (mine ^^^ (-1)) = 0) : srch own col f s mine (k + 1) won := by
  intro p
  rw [h p]
  constructor
  · rintro ⟨h1, c, h2, h3⟩
    exact ⟨h1, c, by omega, h3⟩
  · rintro ⟨h1, c, h2, h3, h4⟩
    by_cases e : c = k
    · subst e; exact absurd h3 hm
    · exact ⟨h1, c, by omega, h3, h4⟩
theorem srch_rgn {mine won : Int32} (hmine : ∀ p, bt mine p = true ↔ (p < 8 ∧ own p = 0)) (h : srch own col f s mine 256 won) : rgn own col f s won := by
  intro p
  rw [h p]
  constructor
  · rintro ⟨h1, c, _, _, h2⟩
    exact ⟨h1, _, h2⟩
  · rintro ⟨h1, π, h2⟩
    obtain ⟨c, h3, h4, h5⟩ := plan_num h2
    refine ⟨h1, c, h3, ?_, h5⟩
    rw [xb_eq0]
    intro q hq
    rw [xb_diff, Bool.and_eq_true, Bool.not_eq_true'] at hq
    have := (hmine q).mpr (h4 q hq.1)
    rw [this] at hq
    cases hq.2
/-- the number of good plans below k -/
noncomputable def cnt (own col f s : Nat → Nat) (i : Nat) : Nat → Nat
  | 0 => 0
  | k + 1 => cnt own col f s i k + @ite _ (gd own col f s i (nI k)) (Classical.propDecidable _) 1 0
theorem cnt_t {i k : Nat} (h : gd own col f s i (nI k)) : cnt own col f s i (k + 1) = cnt own col f s i k + 1 := congrArg (cnt own col f s i k + ·) (if_pos h)
theorem cnt_f {i k : Nat} (h : ¬ gd own col f s i (nI k)) : cnt own col f s i (k + 1) = cnt own col f s i k := congrArg (cnt own col f s i k + ·) (if_neg h)
/-- the first good plan -/
def fst (own col f s : Nat → Nat) (i k : Nat) : Prop := k < 256 ∧ gd own col f s i (nI k) ∧ ∀ j, j < k → ¬ gd own col f s i (nI j)
theorem fst_same {i a b : Nat} (ha : fst own col f s i a) (hb : fst own col f s i b) : a = b := by
  rcases Nat.lt_trichotomy a b with h | h | h
  · exact absurd ha.2.1 (hb.2.2 a h)
  · exact h
  · exact absurd hb.2.1 (ha.2.2 b h)
/-! what can be forced, by the model -/
def tcd (O F S : Nat → Int32) (x : Int32) (k : Nat) : Prop := (O k = 0 ∧ ((x >>> (F k &&& 31)) &&& 1 = 1 ∨ (x >>> (S k &&& 31)) &&& 1 = 1)) ∨ (¬ O k = 0 ∧ ((x >>> (F k &&& 31)) &&& 1 = 1 ∧ (x >>> (S k &&& 31)) &&& 1 = 1))
noncomputable def tci (O F S : Nat → Int32) (x0 : Int32) : Nat → Int32
  | 0 => x0
  | k + 1 => @ite _ (tcd O F S (tci O F S x0 k) k) (Classical.propDecidable _) (sb (tci O F S x0 k) k) (tci O F S x0 k)
theorem tci_t {x0 : Int32} {k : Nat} (h : tcd O F S (tci O F S x0 k) k) : tci O F S x0 (k + 1) = sb (tci O F S x0 k) k := if_pos h
theorem tci_f {x0 : Int32} {k : Nat} (h : ¬ tcd O F S (tci O F S x0 k) k) : tci O F S x0 (k + 1) = tci O F S x0 k := if_neg h
noncomputable def tco (O F S : Nat → Int32) (x0 : Int32) : Nat → Int32
  | 0 => x0
  | k + 1 => tci O F S (tco O F S x0 k) 8
theorem tcd_sem (hg : tv own col f s O C F S) {p : Nat} (hp : p < 8) (x : Int32) : tcd O F S x p ↔ ((own p = 0 ∧ (bt x (f p) = true ∨ bt x (s p) = true)) ∨ (own p ≠ 0 ∧ (bt x (f p) = true ∧ bt x (s p) = true))) := by
  obtain ⟨h0, _, h1, h2⟩ := hg.1 p hp
  obtain ⟨h3, _, h4, h5⟩ := hg.2 p hp
  have ho : O p = 0 ↔ own p = 0 := by rw [h3, ← nI_0, nI_eq (by omega) (by omega)]
  unfold tcd
  rw [ho, h4, h5, xb_t x (k := f p) (by omega), xb_t x (k := s p) (by omega)]
theorem tci_ge (x0 : Int32) : ∀ k, k ≤ 8 → xsub x0 (tci O F S x0 k) := by
  intro k
  induction k with
  | zero => intro _ i h; exact h
  | succ k ih =>
    intro hk i h
    by_cases hc : tcd O F S (tci O F S x0 k) k
    · rw [tci_t hc, xb_sb _ k (by omega), ih (by omega) i h]; rfl
    · rw [tci_f hc]; exact ih (by omega) i h
theorem tci_up (x0 : Int32) : ∀ j k, k + j ≤ 8 → xsub (tci O F S x0 k) (tci O F S x0 (k + j)) := by
  intro j
  induction j with
  | zero => intro k _ i h; exact h
  | succ j ih =>
    intro k hk i h
    have h1 := ih k (by omega) i h
    show bt (tci O F S x0 (k + j + 1)) i = true
    by_cases hc : tcd O F S (tci O F S x0 (k + j)) (k + j)
    · rw [tci_t hc, xb_sb _ _ (by omega), h1]; rfl
    · rw [tci_f hc]; exact h1
theorem tci_in {B : Int32} (hB : ∀ p, p < 8 → ∀ x, xsub x B → tcd O F S x p → bt B p = true) (x0 : Int32) (h0 : xsub x0 B) : ∀ k, k ≤ 8 → xsub (tci O F S x0 k) B := by
  intro k
  induction k with
  | zero => intro _; exact h0
  | succ k ih =>
    intro hk i h
    have ih := ih (by omega)
    by_cases hc : tcd O F S (tci O F S x0 k) k
    · rw [tci_t hc, xb_sb _ k (by omega), Bool.or_eq_true, decide_eq_true_iff] at h
      rcases h with h | h
      · exact ih i h
      · subst h; exact hB i (by omega) _ ih hc
    · rw [tci_f hc] at h; exact ih i h
theorem tco_end (x0 : Int32) (h255 : ∀ p, p < 8 → ∀ x, xsub x 255 → tcd O F S x p → bt (255 : Int32) p = true) : ∀ n, n ≤ 8 → xsub x0 255 → xsub (tco O F S x0 n) 255 ∧ xsub x0 (tco O F S x0 n) ∧ ((tci O F S (tco O F S x0 n) 8 = tco O F S x0 n) ∨ cd x0 + n ≤ cd (tco O F S x0 n)) := by
  intro n
  induction n with
  | zero => intro _ h; exact ⟨h, xsub_rf _, Or.inr (by show cd x0 + 0 ≤ cd x0; omega)⟩
  | succ n ih =>
    intro hn h0
    obtain ⟨i1, i2, i3⟩ := ih (by omega) h0
    show xsub (tci O F S (tco O F S x0 n) 8) 255 ∧ xsub x0 (tci O F S (tco O F S x0 n) 8) ∧ (tci O F S (tci O F S (tco O F S x0 n) 8) 8 = tci O F S (tco O F S x0 n) 8 ∨ cd x0 + (n + 1) ≤ cd (tci O F S (tco O F S x0 n) 8))
    refine ⟨tci_in h255 _ i1 8 (Nat.le_refl 8), xsub_trans i2 (tci_ge _ 8 (Nat.le_refl 8)), ?_⟩
    by_cases hfix : tci O F S (tco O F S x0 n) 8 = tco O F S x0 n
    · rw [hfix]; exact Or.inl hfix
    · right
      have hlt : cd (tco O F S x0 n) < cd (tci O F S (tco O F S x0 n) 8) := by
        have : ∃ p, bt (tci O F S (tco O F S x0 n) 8) p = true ∧ ¬ bt (tco O F S x0 n) p = true := by
          apply Classical.byContradiction
          intro hn
          apply hfix
          apply b_ext
          intro p _
          rw [Bool.eq_iff_iff]
          constructor
          · intro h
            apply Classical.byContradiction
            intro h2
            exact hn ⟨p, h, h2⟩
          · exact tci_ge _ 8 (Nat.le_refl 8) p
        obtain ⟨p, h1, h2⟩ := this
        exact cd_lt (tci_ge _ 8 (Nat.le_refl 8)) ((x255 p).mp (tci_in h255 _ i1 8 (Nat.le_refl 8) p h1)) h2 h1
      rcases i3 with i3 | i3
      · exact absurd i3 hfix
      · omega
theorem tco_fro (hg : gv own col f s one C F S) {O' C' F' S' : Nat → Int32} (ht : tv own col f s O' C' F' S') {b : Nat} (hb : b < 8) (p : Nat) : bt (tco O' F' S' ((1 : Int32) <<< (nI b &&& 31)) 8) p = true ↔ bt (fro one F S (nI 0) 255 9 ((1 : Int32) <<< (nI b &&& 31)) 0) p = true := by
  have hT : ∀ i, bt ((1 : Int32) <<< (nI b &&& 31)) i = true ↔ i = b := fun i => by rw [xb_one b (by omega), decide_eq_true_iff]
  have hT255 : xsub ((1 : Int32) <<< (nI b &&& 31)) 255 := fun i h => (x255 i).mpr (by rw [(hT i).mp h]; exact hb)
  have hT0 : (1 : Int32) <<< (nI b &&& 31) ≠ 0 := (xb_ne _).mpr ⟨b, (hT b).mpr rfl⟩
  obtain ⟨a1, a2, ⟨rk, a3⟩, a4⟩ := fro_at hg (i := 0) (by omega) (xsub_rf 255) hT255 hT0
  generalize fro one F S (nI 0) 255 9 ((1 : Int32) <<< (nI b &&& 31)) 0 = B at a1 a2 a3 a4
  have hcd : 0 < cd ((1 : Int32) <<< (nI b &&& 31)) := cd_pos hb ((hT b).mpr rfl)
  generalize (1 : Int32) <<< (nI b &&& 31) = x0 at hT255 hT0 a1 a3 hcd
  have hclB : ∀ p, p < 8 → ∀ x, xsub x B → tcd O' F' S' x p → bt B p = true := by
    intro p hp x hx hc
    apply Classical.byContradiction
    intro hn
    obtain ⟨c1, c2⟩ := a4 p ((x255 p).mpr hp) hn
    obtain ⟨_, _, hf, hs⟩ := ht.1 p hp
    rcases (tcd_sem ht hp x).mp hc with ⟨h1, h2⟩ | ⟨h1, h2, h3⟩
    · rcases h2 with h2 | h2
      · exact c1 h1 (f p) (Or.inl rfl) ((x255 _).mpr hf) (hx _ h2)
      · exact c1 h1 (s p) (Or.inr rfl) ((x255 _).mpr hs) (hx _ h2)
    · obtain ⟨q, h4, _, h6⟩ := c2 h1
      rcases h4 with h4 | h4
      · exact h6 (by rw [h4]; exact hx _ h2)
      · exact h6 (by rw [h4]; exact hx _ h3)
  have hin : ∀ n, xsub (tco O' F' S' x0 n) B := by
    intro n
    induction n with
    | zero => exact a1
    | succ n ih => exact tci_in hclB _ ih 8 (Nat.le_refl 8)
  obtain ⟨e1, e2, e3⟩ := tco_end (O := O') (F := F') (S := S') x0 (fun p hp _ _ _ => (x255 p).mpr hp) 8 (Nat.le_refl 8) hT255
  have hcl : ∀ p, p < 8 → tcd O' F' S' (tco O' F' S' x0 8) p → bt (tco O' F' S' x0 8) p = true := by
    intro p hp hc
    rcases e3 with e3 | e3
    · have ek : tci O' F' S' (tco O' F' S' x0 8) p = tco O' F' S' x0 8 := by
        apply b_ext
        intro i _
        rw [Bool.eq_iff_iff]
        constructor
        · intro h
          have := tci_up (O := O') (F := F') (S := S') (tco O' F' S' x0 8) (8 - p) p (by omega) i h
          rw [show p + (8 - p) = 8 by omega, e3] at this
          exact this
        · exact tci_ge _ p (by omega) i
      have h1 : bt (tci O' F' S' (tco O' F' S' x0 8) (p + 1)) p = true := by
        rw [tci_t (by rw [ek]; exact hc), xb_sb _ p (by omega), decide_eq_true rfl, Bool.or_true]
      have := tci_up (O := O') (F := F') (S := S') (tco O' F' S' x0 8) (8 - (p + 1)) (p + 1) (by omega) p h1
      rw [show p + 1 + (8 - (p + 1)) = 8 by omega, e3] at this
      exact this
    · apply Classical.byContradiction
      intro hn
      have h1 := cd_lt e1 hp hn ((x255 p).mpr hp)
      have h2 := cd_le 255
      omega
  constructor
  · exact hin 8 p
  · have : ∀ m p, rk p ≤ m → bt B p = true → bt (tco O' F' S' x0 8) p = true := by
      intro m
      induction m with
      | zero =>
        intro p hm hB
        apply Classical.byContradiction
        intro hn
        have hnT : ¬ bt x0 p = true := fun h => hn (e2 p h)
        obtain ⟨c1, c2⟩ := a3 p hB hnT
        by_cases ho : own p = 0
        · obtain ⟨q, _, _, h3⟩ := c1 ho
          omega
        · have := (c2 ho (f p) (Or.inl rfl) ((x255 _).mpr (hg.1 p ((x255 p).mp (a2 p hB))).2.2.1)).2
          omega
      | succ m ih =>
        intro p hm hB
        by_cases hpT : bt x0 p = true
        · exact e2 p hpT
        · obtain ⟨c1, c2⟩ := a3 p hB hpT
          have hp := (x255 p).mp (a2 p hB)
          obtain ⟨_, _, hf, hs⟩ := hg.1 p hp
          refine hcl p hp ((tcd_sem ht hp _).mpr ?_)
          by_cases ho : own p = 0
          · obtain ⟨q, h1, h2, h3⟩ := c1 ho
            have hq := ih q (by omega) h2
            rcases h1 with h1 | h1
            · exact Or.inl ⟨ho, Or.inl (by rw [← h1]; exact hq)⟩
            · exact Or.inl ⟨ho, Or.inr (by rw [← h1]; exact hq)⟩
          · have h1 := c2 ho (f p) (Or.inl rfl) ((x255 _).mpr hf)
            have h2 := c2 ho (s p) (Or.inr rfl) ((x255 _).mpr hs)
            exact Or.inr ⟨ho, ih _ (by omega) h1.1, ih _ (by omega) h2.1⟩
    exact this (rk p) p (Nat.le_refl _)
end
end
section
/-! PART A of the skeleton: the tables words -/
/-- a private method of a class that the tables say can be made, by its rows of tables_1 -/
def lw_okq (q : MethodName × Nat) : Prop := (q.1.cls ≠ "java/lang/invoke/MethodHandle" ∧ q.1.cls ≠ "java/lang/invoke/VarHandle") ∧ Cond.instantiable q.1.cls q.2 ∈ tables_1 ∧ Cond.privateMethod q.1 ∈ tables_1 ∧ Cond.instanceMethod q.1 ∈ tables_1
set_option maxRecDepth 100000
theorem lw_t1 {w : Cond} (h : w ∈ tables_1_1) : w ∈ tables_1 := List.mem_append_left _ h
theorem lw_t2 {w : Cond} (h : w ∈ tables_1_2) : w ∈ tables_1 := List.mem_append_right _ h
theorem lw_p0 : lw_okq (⟨"ParityGame", "owner", "(I)I"⟩, 10) := ⟨⟨by decide +kernel, by decide +kernel⟩, lw_t1 (List.mem_of_getElem? (i := 4) rfl), lw_t1 (List.mem_of_getElem? (i := 59) rfl), lw_t1 (List.mem_of_getElem? (i := 60) rfl)⟩
theorem lw_p1 : lw_okq (⟨"ParityGame", "solve", "()V"⟩, 10) := ⟨⟨by decide +kernel, by decide +kernel⟩, lw_t1 (List.mem_of_getElem? (i := 4) rfl), lw_t1 (List.mem_of_getElem? (i := 71) rfl), lw_t1 (List.mem_of_getElem? (i := 72) rfl)⟩
theorem lw_p2 : lw_okq (⟨"ParityGame", "push", "(I)V"⟩, 10) := ⟨⟨by decide +kernel, by decide +kernel⟩, lw_t1 (List.mem_of_getElem? (i := 4) rfl), lw_t1 (List.mem_of_getElem? (i := 75) rfl), lw_t1 (List.mem_of_getElem? (i := 76) rfl)⟩
theorem lw_p3 : lw_okq (⟨"ParityGame", "begin", "(I)V"⟩, 10) := ⟨⟨by decide +kernel, by decide +kernel⟩, lw_t1 (List.mem_of_getElem? (i := 4) rfl), lw_t1 (List.mem_of_getElem? (i := 79) rfl), lw_t1 (List.mem_of_getElem? (i := 80) rfl)⟩
theorem lw_p4 : lw_okq (⟨"ParityGame", "greatest", "(I)I"⟩, 10) := ⟨⟨by decide +kernel, by decide +kernel⟩, lw_t1 (List.mem_of_getElem? (i := 4) rfl), lw_t1 (List.mem_of_getElem? (i := 83) rfl), lw_t1 (List.mem_of_getElem? (i := 84) rfl)⟩
theorem lw_p5 : lw_okq (⟨"ParityGame", "withColour", "(II)I"⟩, 10) := ⟨⟨by decide +kernel, by decide +kernel⟩, lw_t1 (List.mem_of_getElem? (i := 4) rfl), lw_t1 (List.mem_of_getElem? (i := 87) rfl), lw_t1 (List.mem_of_getElem? (i := 88) rfl)⟩
theorem lw_p6 : lw_okq (⟨"ParityGame", "forced", "(III)I"⟩, 10) := ⟨⟨by decide +kernel, by decide +kernel⟩, lw_t1 (List.mem_of_getElem? (i := 4) rfl), lw_t1 (List.mem_of_getElem? (i := 91) rfl), lw_t1 (List.mem_of_getElem? (i := 92) rfl)⟩
theorem lw_p7 : lw_okq (⟨"ParityGame", "moves", "(I)I"⟩, 10) := ⟨⟨by decide +kernel, by decide +kernel⟩, lw_t1 (List.mem_of_getElem? (i := 4) rfl), lw_t1 (List.mem_of_getElem? (i := 95) rfl), lw_t1 (List.mem_of_getElem? (i := 96) rfl)⟩
theorem lw_p8 : lw_okq (⟨"ParityGame", "goOn", "(I)V"⟩, 10) := ⟨⟨by decide +kernel, by decide +kernel⟩, lw_t1 (List.mem_of_getElem? (i := 4) rfl), lw_t1 (List.mem_of_getElem? (i := 99) rfl), lw_t1 (List.mem_of_getElem? (i := 100) rfl)⟩
theorem lw_p9 : lw_okq (⟨"ParityGame", "finish", "(I)V"⟩, 10) := ⟨⟨by decide +kernel, by decide +kernel⟩, lw_t1 (List.mem_of_getElem? (i := 4) rfl), lw_t1 (List.mem_of_getElem? (i := 103) rfl), lw_t1 (List.mem_of_getElem? (i := 104) rfl)⟩
theorem lw_p10 : lw_okq (⟨"ParityGame", "isGood", "(III)Z"⟩, 10) := ⟨⟨by decide +kernel, by decide +kernel⟩, lw_t1 (List.mem_of_getElem? (i := 4) rfl), lw_t1 (List.mem_of_getElem? (i := 115) rfl), lw_t1 (List.mem_of_getElem? (i := 116) rfl)⟩
theorem lw_p11 : lw_okq (⟨"ParityGame", "badCircles", "(II)I"⟩, 10) := ⟨⟨by decide +kernel, by decide +kernel⟩, lw_t1 (List.mem_of_getElem? (i := 4) rfl), lw_t1 (List.mem_of_getElem? (i := 119) rfl), lw_t1 (List.mem_of_getElem? (i := 120) rfl)⟩
theorem lw_p12 : lw_okq (⟨"ParityGame", "closeWays", "(III)V"⟩, 10) := ⟨⟨by decide +kernel, by decide +kernel⟩, lw_t1 (List.mem_of_getElem? (i := 4) rfl), lw_t1 (List.mem_of_getElem? (i := 123) rfl), lw_t1 (List.mem_of_getElem? (i := 124) rfl)⟩
theorem lw_p13 : lw_okq (⟨"ParityGame", "movesBy", "(III)I"⟩, 10) := ⟨⟨by decide +kernel, by decide +kernel⟩, lw_t1 (List.mem_of_getElem? (i := 4) rfl), lw_t1 (List.mem_of_getElem? (i := 127) rfl), lw_t1 (List.mem_of_getElem? (i := 128) rfl)⟩
theorem lw_p14 : lw_okq (⟨"ParityGame", "lowOnly", "(II)I"⟩, 10) := ⟨⟨by decide +kernel, by decide +kernel⟩, lw_t1 (List.mem_of_getElem? (i := 4) rfl), lw_t1 (List.mem_of_getElem? (i := 131) rfl), lw_t1 (List.mem_of_getElem? (i := 132) rfl)⟩
theorem lw_p15 : lw_okq (⟨"ParityGameModel", "bad", "(I)Z"⟩, 7) := ⟨⟨by decide +kernel, by decide +kernel⟩, lw_t1 (List.mem_of_getElem? (i := 151) rfl), lw_t1 (List.mem_of_getElem? (i := 183) rfl), lw_t1 (List.mem_of_getElem? (i := 184) rfl)⟩
def lw_privs_1 : List (MethodName × Nat) := [(⟨"ParityGame", "owner", "(I)I"⟩, 10), (⟨"ParityGame", "solve", "()V"⟩, 10), (⟨"ParityGame", "push", "(I)V"⟩, 10), (⟨"ParityGame", "begin", "(I)V"⟩, 10), (⟨"ParityGame", "greatest", "(I)I"⟩, 10), (⟨"ParityGame", "withColour", "(II)I"⟩, 10), (⟨"ParityGame", "forced", "(III)I"⟩, 10), (⟨"ParityGame", "moves", "(I)I"⟩, 10), (⟨"ParityGame", "goOn", "(I)V"⟩, 10), (⟨"ParityGame", "finish", "(I)V"⟩, 10), (⟨"ParityGame", "isGood", "(III)Z"⟩, 10), (⟨"ParityGame", "badCircles", "(II)I"⟩, 10), (⟨"ParityGame", "closeWays", "(III)V"⟩, 10), (⟨"ParityGame", "movesBy", "(III)I"⟩, 10), (⟨"ParityGame", "lowOnly", "(II)I"⟩, 10), (⟨"ParityGameModel", "bad", "(I)Z"⟩, 7)]
theorem lw_r1 : ∀ q ∈ lw_privs_1, lw_okq q := List.forall_mem_cons.mpr ⟨lw_p0, List.forall_mem_cons.mpr ⟨lw_p1, List.forall_mem_cons.mpr ⟨lw_p2, List.forall_mem_cons.mpr ⟨lw_p3, List.forall_mem_cons.mpr ⟨lw_p4, List.forall_mem_cons.mpr ⟨lw_p5, List.forall_mem_cons.mpr ⟨lw_p6, List.forall_mem_cons.mpr ⟨lw_p7, List.forall_mem_cons.mpr ⟨lw_p8, List.forall_mem_cons.mpr ⟨lw_p9, List.forall_mem_cons.mpr ⟨lw_p10, List.forall_mem_cons.mpr ⟨lw_p11, List.forall_mem_cons.mpr ⟨lw_p12, List.forall_mem_cons.mpr ⟨lw_p13, List.forall_mem_cons.mpr ⟨lw_p14, List.forall_mem_cons.mpr ⟨lw_p15, fun _ h => absurd h List.not_mem_nil⟩⟩⟩⟩⟩⟩⟩⟩⟩⟩⟩⟩⟩⟩⟩⟩
theorem lw_p16 : lw_okq (⟨"ParityGameModel", "badColour", "(I)Z"⟩, 7) := ⟨⟨by decide +kernel, by decide +kernel⟩, lw_t1 (List.mem_of_getElem? (i := 151) rfl), lw_t1 (List.mem_of_getElem? (i := 187) rfl), lw_t1 (List.mem_of_getElem? (i := 188) rfl)⟩
theorem lw_p17 : lw_okq (⟨"ParityGameModel", "wonBy0", "()I"⟩, 7) := ⟨⟨by decide +kernel, by decide +kernel⟩, lw_t1 (List.mem_of_getElem? (i := 151) rfl), lw_t1 (List.mem_of_getElem? (i := 211) rfl), lw_t1 (List.mem_of_getElem? (i := 212) rfl)⟩
theorem lw_p18 : lw_okq (⟨"ParityGameModel", "plan", "(II)I"⟩, 7) := ⟨⟨by decide +kernel, by decide +kernel⟩, lw_t1 (List.mem_of_getElem? (i := 151) rfl), lw_t1 (List.mem_of_getElem? (i := 215) rfl), lw_t1 (List.mem_of_getElem? (i := 216) rfl)⟩
theorem lw_p19 : lw_okq (⟨"ParityGameModel", "close", "(III)V"⟩, 7) := ⟨⟨by decide +kernel, by decide +kernel⟩, lw_t1 (List.mem_of_getElem? (i := 151) rfl), lw_t1 (List.mem_of_getElem? (i := 219) rfl), lw_t1 (List.mem_of_getElem? (i := 220) rfl)⟩
def lw_privs_2 : List (MethodName × Nat) := [(⟨"ParityGameModel", "badColour", "(I)Z"⟩, 7), (⟨"ParityGameModel", "wonBy0", "()I"⟩, 7), (⟨"ParityGameModel", "plan", "(II)I"⟩, 7), (⟨"ParityGameModel", "close", "(III)V"⟩, 7)]
theorem lw_r2 : ∀ q ∈ lw_privs_2, lw_okq q := List.forall_mem_cons.mpr ⟨lw_p16, List.forall_mem_cons.mpr ⟨lw_p17, List.forall_mem_cons.mpr ⟨lw_p18, List.forall_mem_cons.mpr ⟨lw_p19, fun _ h => absurd h List.not_mem_nil⟩⟩⟩⟩
def lw_privs : List (MethodName × Nat) := lw_privs_1 ++ (lw_privs_2)
def lw_tbl : List Cond := k2_sels lw_privs ++ tables_1
theorem lw_privs_ok : ∀ q ∈ lw_privs, lw_okq q := by
  show ∀ q ∈ lw_privs_1 ++ (lw_privs_2), lw_okq q
  exact List.forall_mem_append.mpr ⟨lw_r1, lw_r2⟩
-- ===== ONE list of words for every method: the tables' words that hold all through a run =====
def lw_all : List Cond := lw_tbl.filter goodWord
/-- a word of the tables by its place: claim/WORDS.tsv -/
theorem lw_w {w : Cond} (i : Nat) (h : lw_tbl[i]? = some w) (g : goodWord w = true) : w ∈ lw_all := List.mem_filter.mpr ⟨List.mem_of_getElem? h, g⟩
theorem lw_all_tbl {w : Cond} (h : w ∈ lw_all) : w ∈ lw_tbl := (List.mem_filter.mp h).1
theorem lw_self : GoodIn lw_all lw_all := fun w h => ⟨h, good_of_word (List.mem_filter.mp h).2⟩
/-- a class's field words, by their places -/
theorem lw_in (ws : List Cond) (ps : List Nat) (hp : ws = ps.filterMap (fun i => lw_tbl[i]?)) (hg : ws.all goodWord = true) : ∀ w ∈ ws, w ∈ lw_all := by
  intro w h
  have h1 := List.all_eq_true.mp hg w h
  rw [hp] at h
  obtain ⟨i, -, hi⟩ := List.mem_filterMap.mp h
  exact lw_w i hi h1
/-- the words of a contract for the method y with code b, L locals, answer r -/
abbrev ws_ (y : MethodName) (b : ByteArray) (L : Nat) (r : Option FieldType) : List Cond := Cond.code y b L r :: lw_all
theorem lw_meth {y : MethodName} {b : ByteArray} {L : Nat} {r : Option FieldType} (h : Cond.code y b L r ∈ lw_all) : GoodIn lw_all (ws_ y b L r) := by
  intro w hw
  rcases List.mem_cons.mp hw with e | e
  · rw [e]
    exact lw_self _ h
  · exact lw_self _ e
theorem lw_app {a c : List Cond} (ha : ∀ w ∈ a, w ∈ lw_all) (hc : GoodIn lw_all c) : GoodIn lw_all (a ++ c) := by
  intro w hw
  rcases List.mem_append.mp hw with e | e
  · exact lw_self w (ha w e)
  · exact hc w e
/-- what a call through an object asks: cwV n hts (lw_V ..) -/
theorem lw_V {own : String} {idx : Nat} {C : String} {y : MethodName} {b : ByteArray} {L : Nat} {r : Option FieldType} (h1 : Cond.methodLink own idx y ∈ lw_all) (h2 : Cond.instanceMethod y ∈ lw_all) (h3 : Cond.selects C y y ∈ lw_all) (h4 : Cond.initialized C ∈ lw_all) (h5 : Cond.code y b L r ∈ lw_all) : GoodIn lw_all (wsV own idx C y (ws_ y b L r)) := by
  refine lw_app ?_ (lw_meth h5)
  intro w hw
  simp only [List.mem_cons, List.not_mem_nil, or_false] at hw
  rcases hw with e | e | e | e
  · rw [e]; exact h1
  · rw [e]; exact h2
  · rw [e]; exact h3
  · rw [e]; exact h4
/-- what a static call asks: va_cwS n hts (lw_S ..) -/
theorem lw_S {own : String} {idx : Nat} {y : MethodName} {b : ByteArray} {L : Nat} {r : Option FieldType} (h1 : Cond.methodLink own idx y ∈ lw_all) (h2 : Cond.static y ∈ lw_all) (h3 : Cond.initialized y.cls ∈ lw_all) (h4 : Cond.code y b L r ∈ lw_all) : GoodIn lw_all (va_wsS own idx y (ws_ y b L r)) := by
  refine lw_app ?_ (lw_meth h4)
  intro w hw
  simp only [List.mem_cons, List.not_mem_nil, or_false] at hw
  rcases hw with e | e | e
  · rw [e]; exact h1
  · rw [e]; exact h2
  · rw [e]; exact h3
/-- the words of a contract for a method WITH HANDLERS (hh: its table) -/
abbrev wsW_ (y : MethodName) (b : ByteArray) (L : Nat) (r : Option FieldType) (hh : List (Nat × Nat × Nat × Nat)) : List Cond := Cond.codeWith y b L r hh :: lw_all
theorem lw_methW {y : MethodName} {b : ByteArray} {L : Nat} {r : Option FieldType} {hh : List (Nat × Nat × Nat × Nat)} (h : Cond.codeWith y b L r hh ∈ lw_all) : GoodIn lw_all (wsW_ y b L r hh) := by
  intro w hw
  rcases List.mem_cons.mp hw with e | e
  · rw [e]
    exact lw_self _ h
  · exact lw_self _ e
/-- any list of words by their places (lw_in), good -/
theorem lw_good {ws : List Cond} (h : ∀ w ∈ ws, w ∈ lw_all) : GoodIn lw_all ws := fun w hw => lw_self w (h w hw)
/-- what a call of a method with handlers asks: vx_cwVW n hts (lw_VW ..), vx_cwSW n hts (lw_SW ..) -/
theorem lw_VW {own : String} {idx : Nat} {C : String} {y : MethodName} {b : ByteArray} {L : Nat} {r : Option FieldType} {hh : List (Nat × Nat × Nat × Nat)} (h1 : Cond.methodLink own idx y ∈ lw_all) (h2 : Cond.instanceMethod y ∈ lw_all) (h3 : Cond.selects C y y ∈ lw_all) (h4 : Cond.initialized C ∈ lw_all) (h5 : Cond.codeWith y b L r hh ∈ lw_all) : GoodIn lw_all (wsV own idx C y (wsW_ y b L r hh)) := by
  refine lw_app ?_ (lw_methW h5)
  intro w hw
  simp only [List.mem_cons, List.not_mem_nil, or_false] at hw
  rcases hw with e | e | e | e
  · rw [e]; exact h1
  · rw [e]; exact h2
  · rw [e]; exact h3
  · rw [e]; exact h4
theorem lw_SW {own : String} {idx : Nat} {y : MethodName} {b : ByteArray} {L : Nat} {r : Option FieldType} {hh : List (Nat × Nat × Nat × Nat)} (h1 : Cond.methodLink own idx y ∈ lw_all) (h2 : Cond.static y ∈ lw_all) (h3 : Cond.initialized y.cls ∈ lw_all) (h4 : Cond.codeWith y b L r hh ∈ lw_all) : GoodIn lw_all (va_wsS own idx y (wsW_ y b L r hh)) := by
  refine lw_app ?_ (lw_methW h4)
  intro w hw
  simp only [List.mem_cons, List.not_mem_nil, or_false] at hw
  rcases hw with e | e | e
  · rw [e]; exact h1
  · rw [e]; exact h2
  · rw [e]; exact h3
/-- a word by its place in its run of the tables -/
theorem lw_at {r : List Cond} (hr : ∀ w ∈ r, w ∈ lw_tbl) {w : Cond} (i : Nat) (h : r[i]? = some w) : w ∈ lw_tbl := hr w (List.mem_of_getElem? h)
theorem lw_g {w : Cond} (h : w ∈ lw_tbl) (g : goodWord w = true) : w ∈ lw_all := List.mem_filter.mpr ⟨h, g⟩
theorem lw_ms : ∀ w ∈ k2_sels lw_privs, w ∈ lw_tbl := fun w h => show w ∈ k2_sels lw_privs ++ tables_1 from List.mem_append_left _ h
theorem lw_m1 : ∀ w ∈ tables_1_1, w ∈ lw_tbl := fun w h => show w ∈ k2_sels lw_privs ++ tables_1 from List.mem_append_right (k2_sels lw_privs) (show w ∈ tables_1 from List.mem_append_left _ h)
theorem lw_m2 : ∀ w ∈ tables_1_2, w ∈ lw_tbl := fun w h => show w ∈ k2_sels lw_privs ++ tables_1 from List.mem_append_right (k2_sels lw_privs) (show w ∈ tables_1 from List.mem_append_right _ h)
theorem qs0 : (Cond.selects "ParityGame" ⟨"ParityGame", "owner", "(I)I"⟩ ⟨"ParityGame", "owner", "(I)I"⟩) ∈ lw_all := lw_g (lw_at lw_ms 0 rfl) rfl
theorem qs1 : (Cond.selects "ParityGame" ⟨"ParityGame", "solve", "()V"⟩ ⟨"ParityGame", "solve", "()V"⟩) ∈ lw_all := lw_g (lw_at lw_ms 1 rfl) rfl
theorem qs2 : (Cond.selects "ParityGame" ⟨"ParityGame", "push", "(I)V"⟩ ⟨"ParityGame", "push", "(I)V"⟩) ∈ lw_all := lw_g (lw_at lw_ms 2 rfl) rfl
theorem qs3 : (Cond.selects "ParityGame" ⟨"ParityGame", "begin", "(I)V"⟩ ⟨"ParityGame", "begin", "(I)V"⟩) ∈ lw_all := lw_g (lw_at lw_ms 3 rfl) rfl
theorem qs4 : (Cond.selects "ParityGame" ⟨"ParityGame", "greatest", "(I)I"⟩ ⟨"ParityGame", "greatest", "(I)I"⟩) ∈ lw_all := lw_g (lw_at lw_ms 4 rfl) rfl
theorem qs5 : (Cond.selects "ParityGame" ⟨"ParityGame", "withColour", "(II)I"⟩ ⟨"ParityGame", "withColour", "(II)I"⟩) ∈ lw_all := lw_g (lw_at lw_ms 5 rfl) rfl
theorem qs6 : (Cond.selects "ParityGame" ⟨"ParityGame", "forced", "(III)I"⟩ ⟨"ParityGame", "forced", "(III)I"⟩) ∈ lw_all := lw_g (lw_at lw_ms 6 rfl) rfl
theorem qs7 : (Cond.selects "ParityGame" ⟨"ParityGame", "moves", "(I)I"⟩ ⟨"ParityGame", "moves", "(I)I"⟩) ∈ lw_all := lw_g (lw_at lw_ms 7 rfl) rfl
theorem qs8 : (Cond.selects "ParityGame" ⟨"ParityGame", "goOn", "(I)V"⟩ ⟨"ParityGame", "goOn", "(I)V"⟩) ∈ lw_all := lw_g (lw_at lw_ms 8 rfl) rfl
theorem qs9 : (Cond.selects "ParityGame" ⟨"ParityGame", "finish", "(I)V"⟩ ⟨"ParityGame", "finish", "(I)V"⟩) ∈ lw_all := lw_g (lw_at lw_ms 9 rfl) rfl
theorem qs10 : (Cond.selects "ParityGame" ⟨"ParityGame", "isGood", "(III)Z"⟩ ⟨"ParityGame", "isGood", "(III)Z"⟩) ∈ lw_all := lw_g (lw_at lw_ms 10 rfl) rfl
theorem qs11 : (Cond.selects "ParityGame" ⟨"ParityGame", "badCircles", "(II)I"⟩ ⟨"ParityGame", "badCircles", "(II)I"⟩) ∈ lw_all := lw_g (lw_at lw_ms 11 rfl) rfl
theorem qs12 : (Cond.selects "ParityGame" ⟨"ParityGame", "closeWays", "(III)V"⟩ ⟨"ParityGame", "closeWays", "(III)V"⟩) ∈ lw_all := lw_g (lw_at lw_ms 12 rfl) rfl
theorem qs13 : (Cond.selects "ParityGame" ⟨"ParityGame", "movesBy", "(III)I"⟩ ⟨"ParityGame", "movesBy", "(III)I"⟩) ∈ lw_all := lw_g (lw_at lw_ms 13 rfl) rfl
theorem qs14 : (Cond.selects "ParityGame" ⟨"ParityGame", "lowOnly", "(II)I"⟩ ⟨"ParityGame", "lowOnly", "(II)I"⟩) ∈ lw_all := lw_g (lw_at lw_ms 14 rfl) rfl
theorem qs15 : (Cond.selects "ParityGameModel" ⟨"ParityGameModel", "bad", "(I)Z"⟩ ⟨"ParityGameModel", "bad", "(I)Z"⟩) ∈ lw_all := lw_g (lw_at lw_ms 15 rfl) rfl
theorem qs16 : (Cond.selects "ParityGameModel" ⟨"ParityGameModel", "badColour", "(I)Z"⟩ ⟨"ParityGameModel", "badColour", "(I)Z"⟩) ∈ lw_all := lw_g (lw_at lw_ms 16 rfl) rfl
theorem qs17 : (Cond.selects "ParityGameModel" ⟨"ParityGameModel", "wonBy0", "()I"⟩ ⟨"ParityGameModel", "wonBy0", "()I"⟩) ∈ lw_all := lw_g (lw_at lw_ms 17 rfl) rfl
theorem qs18 : (Cond.selects "ParityGameModel" ⟨"ParityGameModel", "plan", "(II)I"⟩ ⟨"ParityGameModel", "plan", "(II)I"⟩) ∈ lw_all := lw_g (lw_at lw_ms 18 rfl) rfl
theorem qs19 : (Cond.selects "ParityGameModel" ⟨"ParityGameModel", "close", "(III)V"⟩ ⟨"ParityGameModel", "close", "(III)V"⟩) ∈ lw_all := lw_g (lw_at lw_ms 19 rfl) rfl
end
section
/-! names of the classes, and the words by their places -/
set_option maxRecDepth 100000
def RX0 : String := "ParityGame"
def TX0 : u_T := fun k => match k with
  | 0 => ("ParityGame", "ofOne", "I", false)
  | 1 => ("ParityGame", "colours", "[I", true)
  | 2 => ("ParityGame", "first", "[I", true)
  | 3 => ("ParityGame", "second", "[I", true)
  | 4 => ("ParityGame", "depth", "I", false)
  | 5 => ("ParityGame", "level", "[I", true)
  | 6 => ("ParityGame", "stage", "[I", true)
  | 7 => ("ParityGame", "given", "[I", true)
  | 8 => ("ParityGame", "won", "[I", true)
  | _ => ("ParityGame", "reach", "[I", true)
def tyX0 : Nat → FieldType := fun k => match k with
  | 0 => .int
  | 1 => .array .int
  | 2 => .array .int
  | 3 => .array .int
  | 4 => .int
  | 5 => .array .int
  | 6 => .array .int
  | 7 => .array .int
  | 8 => .array .int
  | _ => .array .int
abbrev wsX00 : List Cond := u_ws RX0 TX0 10
theorem nmX0 : ∀ a, a < 10 → ∀ b, b < 10 → a ≠ b → (TX0 a).2.1 ≠ (TX0 b).2.1 := by decide +kernel
theorem tyX0_ok : ∀ k, k < 10 → parseFieldDescriptor (TX0 k).2.2.1 = some (tyX0 k) := by decide +kernel
abbrev cX0_init : ByteArray := prog_1_method_1_code
def yX0_init : MethodName := ⟨RX0, "<init>", "()V"⟩
abbrev cX0_set : ByteArray := prog_1_method_4_code
def yX0_set : MethodName := ⟨RX0, "set", "(IIII)I"⟩
abbrev cX0_bad : ByteArray := prog_1_method_2_code
def yX0_bad : MethodName := ⟨RX0, "bad", "(I)Z"⟩
abbrev cX0_paint : ByteArray := prog_1_method_5_code
def yX0_paint : MethodName := ⟨RX0, "paint", "(II)I"⟩
abbrev cX0_hand : ByteArray := prog_1_method_6_code
def yX0_hand : MethodName := ⟨RX0, "hand", "(I)I"⟩
abbrev cX0_owner : ByteArray := prog_1_method_3_code
def yX0_owner : MethodName := ⟨RX0, "owner", "(I)I"⟩
abbrev cX0_mirror : ByteArray := prog_1_method_7_code
def yX0_mirror : MethodName := ⟨RX0, "mirror", "()V"⟩
abbrev cX0_winner : ByteArray := prog_1_method_22_code
def yX0_winner : MethodName := ⟨RX0, "winner", "(I)I"⟩
abbrev cX0_solve : ByteArray := prog_1_method_16_code
def yX0_solve : MethodName := ⟨RX0, "solve", "()V"⟩
abbrev cX0_push : ByteArray := prog_1_method_12_code
def yX0_push : MethodName := ⟨RX0, "push", "(I)V"⟩
abbrev cX0_begin : ByteArray := prog_1_method_13_code
def yX0_begin : MethodName := ⟨RX0, "begin", "(I)V"⟩
abbrev cX0_greatest : ByteArray := prog_1_method_10_code
def yX0_greatest : MethodName := ⟨RX0, "greatest", "(I)I"⟩
abbrev cX0_withColour : ByteArray := prog_1_method_11_code
def yX0_withColour : MethodName := ⟨RX0, "withColour", "(II)I"⟩
abbrev cX0_forced : ByteArray := prog_1_method_9_code
def yX0_forced : MethodName := ⟨RX0, "forced", "(III)I"⟩
abbrev cX0_moves : ByteArray := prog_1_method_8_code
def yX0_moves : MethodName := ⟨RX0, "moves", "(I)I"⟩
abbrev cX0_goOn : ByteArray := prog_1_method_14_code
def yX0_goOn : MethodName := ⟨RX0, "goOn", "(I)V"⟩
abbrev cX0_finish : ByteArray := prog_1_method_15_code
def yX0_finish : MethodName := ⟨RX0, "finish", "(I)V"⟩
abbrev cX0_region : ByteArray := prog_1_method_23_code
def yX0_region : MethodName := ⟨RX0, "region", "()I"⟩
abbrev cX0_good : ByteArray := prog_1_method_24_code
def yX0_good : MethodName := ⟨RX0, "good", "(II)Z"⟩
abbrev cX0_isGood : ByteArray := prog_1_method_21_code
def yX0_isGood : MethodName := ⟨RX0, "isGood", "(III)Z"⟩
abbrev cX0_badCircles : ByteArray := prog_1_method_20_code
def yX0_badCircles : MethodName := ⟨RX0, "badCircles", "(II)I"⟩
abbrev cX0_closeWays : ByteArray := prog_1_method_18_code
def yX0_closeWays : MethodName := ⟨RX0, "closeWays", "(III)V"⟩
abbrev cX0_movesBy : ByteArray := prog_1_method_17_code
def yX0_movesBy : MethodName := ⟨RX0, "movesBy", "(III)I"⟩
abbrev cX0_lowOnly : ByteArray := prog_1_method_19_code
def yX0_lowOnly : MethodName := ⟨RX0, "lowOnly", "(II)I"⟩
abbrev cX0_plans : ByteArray := prog_1_method_25_code
def yX0_plans : MethodName := ⟨RX0, "plans", "(I)I"⟩
abbrev cX0_firstPlan : ByteArray := prog_1_method_26_code
def yX0_firstPlan : MethodName := ⟨RX0, "firstPlan", "(I)I"⟩
abbrev cX0_canForce : ByteArray := prog_1_method_27_code
def yX0_canForce : MethodName := ⟨RX0, "canForce", "(II)Z"⟩
abbrev cX0_contested : ByteArray := prog_1_method_28_code
def yX0_contested : MethodName := ⟨RX0, "contested", "()I"⟩
def RX1 : String := "ParityGameModel"
def TX1 : u_T := fun k => match k with
  | 0 => ("ParityGameModel", "owners", "[I", true)
  | 1 => ("ParityGameModel", "colours", "[I", true)
  | 2 => ("ParityGameModel", "firsts", "[I", true)
  | 3 => ("ParityGameModel", "seconds", "[I", true)
  | 4 => ("ParityGameModel", "reach", "[I", true)
  | 5 => ("ParityGameModel", "known", "Z", false)
  | _ => ("ParityGameModel", "wins", "I", false)
def tyX1 : Nat → FieldType := fun k => match k with
  | 0 => .array .int
  | 1 => .array .int
  | 2 => .array .int
  | 3 => .array .int
  | 4 => .array .int
  | 5 => .boolean
  | _ => .int
abbrev wsX10 : List Cond := u_ws RX1 TX1 7
theorem nmX1 : ∀ a, a < 7 → ∀ b, b < 7 → a ≠ b → (TX1 a).2.1 ≠ (TX1 b).2.1 := by decide +kernel
theorem tyX1_ok : ∀ k, k < 7 → parseFieldDescriptor (TX1 k).2.2.1 = some (tyX1 k) := by decide +kernel
abbrev cX1_init : ByteArray := prog_3_method_1_code
def yX1_init : MethodName := ⟨RX1, "<init>", "()V"⟩
abbrev cX1_set : ByteArray := prog_3_method_4_code
def yX1_set : MethodName := ⟨RX1, "set", "(IIII)I"⟩
abbrev cX1_bad : ByteArray := prog_3_method_2_code
def yX1_bad : MethodName := ⟨RX1, "bad", "(I)Z"⟩
abbrev cX1_badColour : ByteArray := prog_3_method_3_code
def yX1_badColour : MethodName := ⟨RX1, "badColour", "(I)Z"⟩
abbrev cX1_paint : ByteArray := prog_3_method_5_code
def yX1_paint : MethodName := ⟨RX1, "paint", "(II)I"⟩
abbrev cX1_hand : ByteArray := prog_3_method_6_code
def yX1_hand : MethodName := ⟨RX1, "hand", "(I)I"⟩
abbrev cX1_mirror : ByteArray := prog_3_method_7_code
def yX1_mirror : MethodName := ⟨RX1, "mirror", "()V"⟩
abbrev cX1_winner : ByteArray := prog_3_method_11_code
def yX1_winner : MethodName := ⟨RX1, "winner", "(I)I"⟩
abbrev cX1_region : ByteArray := prog_3_method_12_code
def yX1_region : MethodName := ⟨RX1, "region", "()I"⟩
abbrev cX1_wonBy0 : ByteArray := prog_3_method_10_code
def yX1_wonBy0 : MethodName := ⟨RX1, "wonBy0", "()I"⟩
abbrev cX1_plan : ByteArray := prog_3_method_9_code
def yX1_plan : MethodName := ⟨RX1, "plan", "(II)I"⟩
abbrev cX1_close : ByteArray := prog_3_method_8_code
def yX1_close : MethodName := ⟨RX1, "close", "(III)V"⟩
abbrev cX1_good : ByteArray := prog_3_method_13_code
def yX1_good : MethodName := ⟨RX1, "good", "(II)Z"⟩
abbrev cX1_plans : ByteArray := prog_3_method_14_code
def yX1_plans : MethodName := ⟨RX1, "plans", "(I)I"⟩
abbrev cX1_firstPlan : ByteArray := prog_3_method_15_code
def yX1_firstPlan : MethodName := ⟨RX1, "firstPlan", "(I)I"⟩
abbrev cX1_canForce : ByteArray := prog_3_method_16_code
def yX1_canForce : MethodName := ⟨RX1, "canForce", "(II)Z"⟩
abbrev cX1_contested : ByteArray := prog_3_method_17_code
def yX1_contested : MethodName := ⟨RX1, "contested", "()I"⟩
def RJ0 : String := "java/lang/Object"
abbrev cJ0_init : ByteArray := object_method_1_code
def yJ0_init : MethodName := ⟨RJ0, "<init>", "()V"⟩
abbrev cL_law : ByteArray := code
theorem q21 : (Jvm.Cond.initialized "ParityGame") ∈ lw_all := lw_g (lw_at lw_m1 1 rfl) rfl
theorem q24 : (Jvm.Cond.instantiable "ParityGame" (10 : Nat)) ∈ lw_all := lw_g (lw_at lw_m1 4 rfl) rfl
theorem q26 : (Jvm.Cond.instanceMethod ({ cls := "ParityGame", name := "<init>", desc := "()V" } : Jvm.MethodName)) ∈ lw_all := lw_g (lw_at lw_m1 6 rfl) rfl
theorem q27 : (Jvm.Cond.code ({ cls := "ParityGame", name := "<init>", desc := "()V" } : Jvm.MethodName) prog_1_method_1_code (2 : Nat) (Option.none : Option Jvm.ClassFile.FieldType)) ∈ lw_all := lw_g (lw_at lw_m1 7 rfl) rfl
theorem q28 : (Jvm.Cond.methodLink "ParityGame" (1 : Nat) ({ cls := "java/lang/Object", name := "<init>", desc := "()V" } : Jvm.MethodName)) ∈ lw_all := lw_g (lw_at lw_m1 8 rfl) rfl
theorem q31 : (Jvm.Cond.fieldLink "ParityGame" (34 : Nat) "ParityGame" "ofOne" "I") ∈ lw_all := lw_g (lw_at lw_m1 11 rfl) rfl
theorem q32 : (Jvm.Cond.fieldLink "ParityGame" (7 : Nat) "ParityGame" "colours" "[I") ∈ lw_all := lw_g (lw_at lw_m1 12 rfl) rfl
theorem q33 : (Jvm.Cond.fieldLink "ParityGame" (13 : Nat) "ParityGame" "first" "[I") ∈ lw_all := lw_g (lw_at lw_m1 13 rfl) rfl
theorem q34 : (Jvm.Cond.fieldLink "ParityGame" (16 : Nat) "ParityGame" "second" "[I") ∈ lw_all := lw_g (lw_at lw_m1 14 rfl) rfl
theorem q35 : (Jvm.Cond.fieldLink "ParityGame" (49 : Nat) "ParityGame" "depth" "I") ∈ lw_all := lw_g (lw_at lw_m1 15 rfl) rfl
theorem q36 : (Jvm.Cond.fieldLink "ParityGame" (19 : Nat) "ParityGame" "level" "[I") ∈ lw_all := lw_g (lw_at lw_m1 16 rfl) rfl
theorem q37 : (Jvm.Cond.fieldLink "ParityGame" (22 : Nat) "ParityGame" "stage" "[I") ∈ lw_all := lw_g (lw_at lw_m1 17 rfl) rfl
theorem q38 : (Jvm.Cond.fieldLink "ParityGame" (25 : Nat) "ParityGame" "given" "[I") ∈ lw_all := lw_g (lw_at lw_m1 18 rfl) rfl
theorem q39 : (Jvm.Cond.fieldLink "ParityGame" (28 : Nat) "ParityGame" "won" "[I") ∈ lw_all := lw_g (lw_at lw_m1 19 rfl) rfl
theorem q40 : (Jvm.Cond.fieldLink "ParityGame" (31 : Nat) "ParityGame" "reach" "[I") ∈ lw_all := lw_g (lw_at lw_m1 20 rfl) rfl
theorem q41 : (Jvm.Cond.lays "ParityGame" "ParityGame" "ofOne" "I") ∈ lw_all := lw_g (lw_at lw_m1 21 rfl) rfl
theorem q42 : (Jvm.Cond.soleField "ParityGame" "ofOne") ∈ lw_all := lw_g (lw_at lw_m1 22 rfl) rfl
theorem q43 : (Jvm.Cond.laysFinal "ParityGame" "ParityGame" "colours" "[I") ∈ lw_all := lw_g (lw_at lw_m1 23 rfl) rfl
theorem q44 : (Jvm.Cond.soleField "ParityGame" "colours") ∈ lw_all := lw_g (lw_at lw_m1 24 rfl) rfl
theorem q45 : (Jvm.Cond.laysFinal "ParityGame" "ParityGame" "first" "[I") ∈ lw_all := lw_g (lw_at lw_m1 25 rfl) rfl
theorem q46 : (Jvm.Cond.soleField "ParityGame" "first") ∈ lw_all := lw_g (lw_at lw_m1 26 rfl) rfl
theorem q47 : (Jvm.Cond.laysFinal "ParityGame" "ParityGame" "second" "[I") ∈ lw_all := lw_g (lw_at lw_m1 27 rfl) rfl
theorem q48 : (Jvm.Cond.soleField "ParityGame" "second") ∈ lw_all := lw_g (lw_at lw_m1 28 rfl) rfl
theorem q49 : (Jvm.Cond.lays "ParityGame" "ParityGame" "depth" "I") ∈ lw_all := lw_g (lw_at lw_m1 29 rfl) rfl
theorem q50 : (Jvm.Cond.soleField "ParityGame" "depth") ∈ lw_all := lw_g (lw_at lw_m1 30 rfl) rfl
theorem q51 : (Jvm.Cond.laysFinal "ParityGame" "ParityGame" "level" "[I") ∈ lw_all := lw_g (lw_at lw_m1 31 rfl) rfl
theorem q52 : (Jvm.Cond.soleField "ParityGame" "level") ∈ lw_all := lw_g (lw_at lw_m1 32 rfl) rfl
theorem q53 : (Jvm.Cond.laysFinal "ParityGame" "ParityGame" "stage" "[I") ∈ lw_all := lw_g (lw_at lw_m1 33 rfl) rfl
theorem q54 : (Jvm.Cond.soleField "ParityGame" "stage") ∈ lw_all := lw_g (lw_at lw_m1 34 rfl) rfl
theorem q55 : (Jvm.Cond.laysFinal "ParityGame" "ParityGame" "given" "[I") ∈ lw_all := lw_g (lw_at lw_m1 35 rfl) rfl
theorem q56 : (Jvm.Cond.soleField "ParityGame" "given") ∈ lw_all := lw_g (lw_at lw_m1 36 rfl) rfl
theorem q57 : (Jvm.Cond.laysFinal "ParityGame" "ParityGame" "won" "[I") ∈ lw_all := lw_g (lw_at lw_m1 37 rfl) rfl
theorem q58 : (Jvm.Cond.soleField "ParityGame" "won") ∈ lw_all := lw_g (lw_at lw_m1 38 rfl) rfl
theorem q59 : (Jvm.Cond.laysFinal "ParityGame" "ParityGame" "reach" "[I") ∈ lw_all := lw_g (lw_at lw_m1 39 rfl) rfl
theorem q60 : (Jvm.Cond.soleField "ParityGame" "reach") ∈ lw_all := lw_g (lw_at lw_m1 40 rfl) rfl
theorem q61 : (Jvm.Cond.superclass "ParityGame" "java/lang/Object") ∈ lw_all := lw_g (lw_at lw_m1 41 rfl) rfl
theorem q64 : (Jvm.Cond.instanceMethod ({ cls := "ParityGame", name := "set", desc := "(IIII)I" } : Jvm.MethodName)) ∈ lw_all := lw_g (lw_at lw_m1 44 rfl) rfl
theorem q65 : (Jvm.Cond.selects "ParityGame" ({ cls := "ParityGame", name := "set", desc := "(IIII)I" } : Jvm.MethodName) ({ cls := "ParityGame", name := "set", desc := "(IIII)I" } : Jvm.MethodName)) ∈ lw_all := lw_g (lw_at lw_m1 45 rfl) rfl
theorem q66 : (Jvm.Cond.code ({ cls := "ParityGame", name := "set", desc := "(IIII)I" } : Jvm.MethodName) prog_1_method_4_code (5 : Nat) (Option.some Jvm.ClassFile.FieldType.int)) ∈ lw_all := lw_g (lw_at lw_m1 46 rfl) rfl
theorem q67 : (Jvm.Cond.methodLink "ParityGame" (38 : Nat) ({ cls := "ParityGame", name := "bad", desc := "(I)Z" } : Jvm.MethodName)) ∈ lw_all := lw_g (lw_at lw_m1 47 rfl) rfl
theorem q68 : (Jvm.Cond.static ({ cls := "ParityGame", name := "bad", desc := "(I)Z" } : Jvm.MethodName)) ∈ lw_all := lw_g (lw_at lw_m1 48 rfl) rfl
theorem q69 : (Jvm.Cond.code ({ cls := "ParityGame", name := "bad", desc := "(I)Z" } : Jvm.MethodName) prog_1_method_2_code (1 : Nat) (Option.some Jvm.ClassFile.FieldType.boolean)) ∈ lw_all := lw_g (lw_at lw_m1 49 rfl) rfl
theorem q71 : (Jvm.Cond.instanceMethod ({ cls := "ParityGame", name := "paint", desc := "(II)I" } : Jvm.MethodName)) ∈ lw_all := lw_g (lw_at lw_m1 51 rfl) rfl
theorem q72 : (Jvm.Cond.selects "ParityGame" ({ cls := "ParityGame", name := "paint", desc := "(II)I" } : Jvm.MethodName) ({ cls := "ParityGame", name := "paint", desc := "(II)I" } : Jvm.MethodName)) ∈ lw_all := lw_g (lw_at lw_m1 52 rfl) rfl
theorem q73 : (Jvm.Cond.code ({ cls := "ParityGame", name := "paint", desc := "(II)I" } : Jvm.MethodName) prog_1_method_5_code (4 : Nat) (Option.some Jvm.ClassFile.FieldType.int)) ∈ lw_all := lw_g (lw_at lw_m1 53 rfl) rfl
theorem q75 : (Jvm.Cond.instanceMethod ({ cls := "ParityGame", name := "hand", desc := "(I)I" } : Jvm.MethodName)) ∈ lw_all := lw_g (lw_at lw_m1 55 rfl) rfl
theorem q76 : (Jvm.Cond.selects "ParityGame" ({ cls := "ParityGame", name := "hand", desc := "(I)I" } : Jvm.MethodName) ({ cls := "ParityGame", name := "hand", desc := "(I)I" } : Jvm.MethodName)) ∈ lw_all := lw_g (lw_at lw_m1 56 rfl) rfl
theorem q77 : (Jvm.Cond.code ({ cls := "ParityGame", name := "hand", desc := "(I)I" } : Jvm.MethodName) prog_1_method_6_code (2 : Nat) (Option.some Jvm.ClassFile.FieldType.int)) ∈ lw_all := lw_g (lw_at lw_m1 57 rfl) rfl
theorem q78 : (Jvm.Cond.methodLink "ParityGame" (42 : Nat) ({ cls := "ParityGame", name := "owner", desc := "(I)I" } : Jvm.MethodName)) ∈ lw_all := lw_g (lw_at lw_m1 58 rfl) rfl
theorem q79 : (Jvm.Cond.privateMethod ({ cls := "ParityGame", name := "owner", desc := "(I)I" } : Jvm.MethodName)) ∈ lw_tbl := lw_at lw_m1 59 rfl
theorem q80 : (Jvm.Cond.instanceMethod ({ cls := "ParityGame", name := "owner", desc := "(I)I" } : Jvm.MethodName)) ∈ lw_all := lw_g (lw_at lw_m1 60 rfl) rfl
theorem q81 : (Jvm.Cond.code ({ cls := "ParityGame", name := "owner", desc := "(I)I" } : Jvm.MethodName) prog_1_method_3_code (2 : Nat) (Option.some Jvm.ClassFile.FieldType.int)) ∈ lw_all := lw_g (lw_at lw_m1 61 rfl) rfl
theorem q83 : (Jvm.Cond.instanceMethod ({ cls := "ParityGame", name := "mirror", desc := "()V" } : Jvm.MethodName)) ∈ lw_all := lw_g (lw_at lw_m1 63 rfl) rfl
theorem q84 : (Jvm.Cond.selects "ParityGame" ({ cls := "ParityGame", name := "mirror", desc := "()V" } : Jvm.MethodName) ({ cls := "ParityGame", name := "mirror", desc := "()V" } : Jvm.MethodName)) ∈ lw_all := lw_g (lw_at lw_m1 64 rfl) rfl
theorem q85 : (Jvm.Cond.code ({ cls := "ParityGame", name := "mirror", desc := "()V" } : Jvm.MethodName) prog_1_method_7_code (2 : Nat) (Option.none : Option Jvm.ClassFile.FieldType)) ∈ lw_all := lw_g (lw_at lw_m1 65 rfl) rfl
theorem q87 : (Jvm.Cond.instanceMethod ({ cls := "ParityGame", name := "winner", desc := "(I)I" } : Jvm.MethodName)) ∈ lw_all := lw_g (lw_at lw_m1 67 rfl) rfl
theorem q88 : (Jvm.Cond.selects "ParityGame" ({ cls := "ParityGame", name := "winner", desc := "(I)I" } : Jvm.MethodName) ({ cls := "ParityGame", name := "winner", desc := "(I)I" } : Jvm.MethodName)) ∈ lw_all := lw_g (lw_at lw_m1 68 rfl) rfl
theorem q89 : (Jvm.Cond.code ({ cls := "ParityGame", name := "winner", desc := "(I)I" } : Jvm.MethodName) prog_1_method_22_code (2 : Nat) (Option.some Jvm.ClassFile.FieldType.int)) ∈ lw_all := lw_g (lw_at lw_m1 69 rfl) rfl
theorem q90 : (Jvm.Cond.methodLink "ParityGame" (89 : Nat) ({ cls := "ParityGame", name := "solve", desc := "()V" } : Jvm.MethodName)) ∈ lw_all := lw_g (lw_at lw_m1 70 rfl) rfl
theorem q91 : (Jvm.Cond.privateMethod ({ cls := "ParityGame", name := "solve", desc := "()V" } : Jvm.MethodName)) ∈ lw_tbl := lw_at lw_m1 71 rfl
theorem q92 : (Jvm.Cond.instanceMethod ({ cls := "ParityGame", name := "solve", desc := "()V" } : Jvm.MethodName)) ∈ lw_all := lw_g (lw_at lw_m1 72 rfl) rfl
theorem q93 : (Jvm.Cond.code ({ cls := "ParityGame", name := "solve", desc := "()V" } : Jvm.MethodName) prog_1_method_16_code (3 : Nat) (Option.none : Option Jvm.ClassFile.FieldType)) ∈ lw_all := lw_g (lw_at lw_m1 73 rfl) rfl
theorem q94 : (Jvm.Cond.methodLink "ParityGame" (63 : Nat) ({ cls := "ParityGame", name := "push", desc := "(I)V" } : Jvm.MethodName)) ∈ lw_all := lw_g (lw_at lw_m1 74 rfl) rfl
theorem q95 : (Jvm.Cond.privateMethod ({ cls := "ParityGame", name := "push", desc := "(I)V" } : Jvm.MethodName)) ∈ lw_tbl := lw_at lw_m1 75 rfl
theorem q96 : (Jvm.Cond.instanceMethod ({ cls := "ParityGame", name := "push", desc := "(I)V" } : Jvm.MethodName)) ∈ lw_all := lw_g (lw_at lw_m1 76 rfl) rfl
theorem q97 : (Jvm.Cond.code ({ cls := "ParityGame", name := "push", desc := "(I)V" } : Jvm.MethodName) prog_1_method_12_code (2 : Nat) (Option.none : Option Jvm.ClassFile.FieldType)) ∈ lw_all := lw_g (lw_at lw_m1 77 rfl) rfl
theorem q98 : (Jvm.Cond.methodLink "ParityGame" (67 : Nat) ({ cls := "ParityGame", name := "begin", desc := "(I)V" } : Jvm.MethodName)) ∈ lw_all := lw_g (lw_at lw_m1 78 rfl) rfl
theorem q99 : (Jvm.Cond.privateMethod ({ cls := "ParityGame", name := "begin", desc := "(I)V" } : Jvm.MethodName)) ∈ lw_tbl := lw_at lw_m1 79 rfl
theorem q100 : (Jvm.Cond.instanceMethod ({ cls := "ParityGame", name := "begin", desc := "(I)V" } : Jvm.MethodName)) ∈ lw_all := lw_g (lw_at lw_m1 80 rfl) rfl
theorem q101 : (Jvm.Cond.code ({ cls := "ParityGame", name := "begin", desc := "(I)V" } : Jvm.MethodName) prog_1_method_13_code (6 : Nat) (Option.none : Option Jvm.ClassFile.FieldType)) ∈ lw_all := lw_g (lw_at lw_m1 81 rfl) rfl
theorem q102 : (Jvm.Cond.methodLink "ParityGame" (52 : Nat) ({ cls := "ParityGame", name := "greatest", desc := "(I)I" } : Jvm.MethodName)) ∈ lw_all := lw_g (lw_at lw_m1 82 rfl) rfl
theorem q103 : (Jvm.Cond.privateMethod ({ cls := "ParityGame", name := "greatest", desc := "(I)I" } : Jvm.MethodName)) ∈ lw_tbl := lw_at lw_m1 83 rfl
theorem q104 : (Jvm.Cond.instanceMethod ({ cls := "ParityGame", name := "greatest", desc := "(I)I" } : Jvm.MethodName)) ∈ lw_all := lw_g (lw_at lw_m1 84 rfl) rfl
theorem q105 : (Jvm.Cond.code ({ cls := "ParityGame", name := "greatest", desc := "(I)I" } : Jvm.MethodName) prog_1_method_10_code (4 : Nat) (Option.some Jvm.ClassFile.FieldType.int)) ∈ lw_all := lw_g (lw_at lw_m1 85 rfl) rfl
theorem q106 : (Jvm.Cond.methodLink "ParityGame" (55 : Nat) ({ cls := "ParityGame", name := "withColour", desc := "(II)I" } : Jvm.MethodName)) ∈ lw_all := lw_g (lw_at lw_m1 86 rfl) rfl
theorem q107 : (Jvm.Cond.privateMethod ({ cls := "ParityGame", name := "withColour", desc := "(II)I" } : Jvm.MethodName)) ∈ lw_tbl := lw_at lw_m1 87 rfl
theorem q108 : (Jvm.Cond.instanceMethod ({ cls := "ParityGame", name := "withColour", desc := "(II)I" } : Jvm.MethodName)) ∈ lw_all := lw_g (lw_at lw_m1 88 rfl) rfl
theorem q109 : (Jvm.Cond.code ({ cls := "ParityGame", name := "withColour", desc := "(II)I" } : Jvm.MethodName) prog_1_method_11_code (5 : Nat) (Option.some Jvm.ClassFile.FieldType.int)) ∈ lw_all := lw_g (lw_at lw_m1 89 rfl) rfl
theorem q110 : (Jvm.Cond.methodLink "ParityGame" (59 : Nat) ({ cls := "ParityGame", name := "forced", desc := "(III)I" } : Jvm.MethodName)) ∈ lw_all := lw_g (lw_at lw_m1 90 rfl) rfl
theorem q111 : (Jvm.Cond.privateMethod ({ cls := "ParityGame", name := "forced", desc := "(III)I" } : Jvm.MethodName)) ∈ lw_tbl := lw_at lw_m1 91 rfl
theorem q112 : (Jvm.Cond.instanceMethod ({ cls := "ParityGame", name := "forced", desc := "(III)I" } : Jvm.MethodName)) ∈ lw_all := lw_g (lw_at lw_m1 92 rfl) rfl
theorem q113 : (Jvm.Cond.code ({ cls := "ParityGame", name := "forced", desc := "(III)I" } : Jvm.MethodName) prog_1_method_9_code (11 : Nat) (Option.some Jvm.ClassFile.FieldType.int)) ∈ lw_all := lw_g (lw_at lw_m1 93 rfl) rfl
theorem q114 : (Jvm.Cond.methodLink "ParityGame" (46 : Nat) ({ cls := "ParityGame", name := "moves", desc := "(I)I" } : Jvm.MethodName)) ∈ lw_all := lw_g (lw_at lw_m1 94 rfl) rfl
theorem q115 : (Jvm.Cond.privateMethod ({ cls := "ParityGame", name := "moves", desc := "(I)I" } : Jvm.MethodName)) ∈ lw_tbl := lw_at lw_m1 95 rfl
theorem q116 : (Jvm.Cond.instanceMethod ({ cls := "ParityGame", name := "moves", desc := "(I)I" } : Jvm.MethodName)) ∈ lw_all := lw_g (lw_at lw_m1 96 rfl) rfl
theorem q117 : (Jvm.Cond.code ({ cls := "ParityGame", name := "moves", desc := "(I)I" } : Jvm.MethodName) prog_1_method_8_code (2 : Nat) (Option.some Jvm.ClassFile.FieldType.int)) ∈ lw_all := lw_g (lw_at lw_m1 97 rfl) rfl
theorem q118 : (Jvm.Cond.methodLink "ParityGame" (70 : Nat) ({ cls := "ParityGame", name := "goOn", desc := "(I)V" } : Jvm.MethodName)) ∈ lw_all := lw_g (lw_at lw_m1 98 rfl) rfl
theorem q119 : (Jvm.Cond.privateMethod ({ cls := "ParityGame", name := "goOn", desc := "(I)V" } : Jvm.MethodName)) ∈ lw_tbl := lw_at lw_m1 99 rfl
theorem q120 : (Jvm.Cond.instanceMethod ({ cls := "ParityGame", name := "goOn", desc := "(I)V" } : Jvm.MethodName)) ∈ lw_all := lw_g (lw_at lw_m1 100 rfl) rfl
theorem q121 : (Jvm.Cond.code ({ cls := "ParityGame", name := "goOn", desc := "(I)V" } : Jvm.MethodName) prog_1_method_14_code (6 : Nat) (Option.none : Option Jvm.ClassFile.FieldType)) ∈ lw_all := lw_g (lw_at lw_m1 101 rfl) rfl
theorem q122 : (Jvm.Cond.methodLink "ParityGame" (73 : Nat) ({ cls := "ParityGame", name := "finish", desc := "(I)V" } : Jvm.MethodName)) ∈ lw_all := lw_g (lw_at lw_m1 102 rfl) rfl
theorem q123 : (Jvm.Cond.privateMethod ({ cls := "ParityGame", name := "finish", desc := "(I)V" } : Jvm.MethodName)) ∈ lw_tbl := lw_at lw_m1 103 rfl
theorem q124 : (Jvm.Cond.instanceMethod ({ cls := "ParityGame", name := "finish", desc := "(I)V" } : Jvm.MethodName)) ∈ lw_all := lw_g (lw_at lw_m1 104 rfl) rfl
theorem q125 : (Jvm.Cond.code ({ cls := "ParityGame", name := "finish", desc := "(I)V" } : Jvm.MethodName) prog_1_method_15_code (3 : Nat) (Option.none : Option Jvm.ClassFile.FieldType)) ∈ lw_all := lw_g (lw_at lw_m1 105 rfl) rfl
theorem q127 : (Jvm.Cond.instanceMethod ({ cls := "ParityGame", name := "region", desc := "()I" } : Jvm.MethodName)) ∈ lw_all := lw_g (lw_at lw_m1 107 rfl) rfl
theorem q128 : (Jvm.Cond.selects "ParityGame" ({ cls := "ParityGame", name := "region", desc := "()I" } : Jvm.MethodName) ({ cls := "ParityGame", name := "region", desc := "()I" } : Jvm.MethodName)) ∈ lw_all := lw_g (lw_at lw_m1 108 rfl) rfl
theorem q129 : (Jvm.Cond.code ({ cls := "ParityGame", name := "region", desc := "()I" } : Jvm.MethodName) prog_1_method_23_code (1 : Nat) (Option.some Jvm.ClassFile.FieldType.int)) ∈ lw_all := lw_g (lw_at lw_m1 109 rfl) rfl
theorem q131 : (Jvm.Cond.instanceMethod ({ cls := "ParityGame", name := "good", desc := "(II)Z" } : Jvm.MethodName)) ∈ lw_all := lw_g (lw_at lw_m1 111 rfl) rfl
theorem q132 : (Jvm.Cond.selects "ParityGame" ({ cls := "ParityGame", name := "good", desc := "(II)Z" } : Jvm.MethodName) ({ cls := "ParityGame", name := "good", desc := "(II)Z" } : Jvm.MethodName)) ∈ lw_all := lw_g (lw_at lw_m1 112 rfl) rfl
theorem q133 : (Jvm.Cond.code ({ cls := "ParityGame", name := "good", desc := "(II)Z" } : Jvm.MethodName) prog_1_method_24_code (3 : Nat) (Option.some Jvm.ClassFile.FieldType.boolean)) ∈ lw_all := lw_g (lw_at lw_m1 113 rfl) rfl
theorem q134 : (Jvm.Cond.methodLink "ParityGame" (92 : Nat) ({ cls := "ParityGame", name := "isGood", desc := "(III)Z" } : Jvm.MethodName)) ∈ lw_all := lw_g (lw_at lw_m1 114 rfl) rfl
theorem q135 : (Jvm.Cond.privateMethod ({ cls := "ParityGame", name := "isGood", desc := "(III)Z" } : Jvm.MethodName)) ∈ lw_tbl := lw_at lw_m1 115 rfl
theorem q136 : (Jvm.Cond.instanceMethod ({ cls := "ParityGame", name := "isGood", desc := "(III)Z" } : Jvm.MethodName)) ∈ lw_all := lw_g (lw_at lw_m1 116 rfl) rfl
theorem q137 : (Jvm.Cond.code ({ cls := "ParityGame", name := "isGood", desc := "(III)Z" } : Jvm.MethodName) prog_1_method_21_code (6 : Nat) (Option.some Jvm.ClassFile.FieldType.boolean)) ∈ lw_all := lw_g (lw_at lw_m1 117 rfl) rfl
theorem q138 : (Jvm.Cond.methodLink "ParityGame" (86 : Nat) ({ cls := "ParityGame", name := "badCircles", desc := "(II)I" } : Jvm.MethodName)) ∈ lw_all := lw_g (lw_at lw_m1 118 rfl) rfl
theorem q139 : (Jvm.Cond.privateMethod ({ cls := "ParityGame", name := "badCircles", desc := "(II)I" } : Jvm.MethodName)) ∈ lw_tbl := lw_at lw_m1 119 rfl
theorem q140 : (Jvm.Cond.instanceMethod ({ cls := "ParityGame", name := "badCircles", desc := "(II)I" } : Jvm.MethodName)) ∈ lw_all := lw_g (lw_at lw_m1 120 rfl) rfl
theorem q141 : (Jvm.Cond.code ({ cls := "ParityGame", name := "badCircles", desc := "(II)I" } : Jvm.MethodName) prog_1_method_20_code (6 : Nat) (Option.some Jvm.ClassFile.FieldType.int)) ∈ lw_all := lw_g (lw_at lw_m1 121 rfl) rfl
theorem q142 : (Jvm.Cond.methodLink "ParityGame" (82 : Nat) ({ cls := "ParityGame", name := "closeWays", desc := "(III)V" } : Jvm.MethodName)) ∈ lw_all := lw_g (lw_at lw_m1 122 rfl) rfl
theorem q143 : (Jvm.Cond.privateMethod ({ cls := "ParityGame", name := "closeWays", desc := "(III)V" } : Jvm.MethodName)) ∈ lw_tbl := lw_at lw_m1 123 rfl
theorem q144 : (Jvm.Cond.instanceMethod ({ cls := "ParityGame", name := "closeWays", desc := "(III)V" } : Jvm.MethodName)) ∈ lw_all := lw_g (lw_at lw_m1 124 rfl) rfl
theorem q145 : (Jvm.Cond.code ({ cls := "ParityGame", name := "closeWays", desc := "(III)V" } : Jvm.MethodName) prog_1_method_18_code (6 : Nat) (Option.none : Option Jvm.ClassFile.FieldType)) ∈ lw_all := lw_g (lw_at lw_m1 125 rfl) rfl
theorem q146 : (Jvm.Cond.methodLink "ParityGame" (76 : Nat) ({ cls := "ParityGame", name := "movesBy", desc := "(III)I" } : Jvm.MethodName)) ∈ lw_all := lw_g (lw_at lw_m1 126 rfl) rfl
theorem q147 : (Jvm.Cond.privateMethod ({ cls := "ParityGame", name := "movesBy", desc := "(III)I" } : Jvm.MethodName)) ∈ lw_tbl := lw_at lw_m1 127 rfl
theorem q148 : (Jvm.Cond.instanceMethod ({ cls := "ParityGame", name := "movesBy", desc := "(III)I" } : Jvm.MethodName)) ∈ lw_all := lw_g (lw_at lw_m1 128 rfl) rfl
theorem q149 : (Jvm.Cond.code ({ cls := "ParityGame", name := "movesBy", desc := "(III)I" } : Jvm.MethodName) prog_1_method_17_code (4 : Nat) (Option.some Jvm.ClassFile.FieldType.int)) ∈ lw_all := lw_g (lw_at lw_m1 129 rfl) rfl
theorem q150 : (Jvm.Cond.methodLink "ParityGame" (79 : Nat) ({ cls := "ParityGame", name := "lowOnly", desc := "(II)I" } : Jvm.MethodName)) ∈ lw_all := lw_g (lw_at lw_m1 130 rfl) rfl
theorem q151 : (Jvm.Cond.privateMethod ({ cls := "ParityGame", name := "lowOnly", desc := "(II)I" } : Jvm.MethodName)) ∈ lw_tbl := lw_at lw_m1 131 rfl
theorem q152 : (Jvm.Cond.instanceMethod ({ cls := "ParityGame", name := "lowOnly", desc := "(II)I" } : Jvm.MethodName)) ∈ lw_all := lw_g (lw_at lw_m1 132 rfl) rfl
theorem q153 : (Jvm.Cond.code ({ cls := "ParityGame", name := "lowOnly", desc := "(II)I" } : Jvm.MethodName) prog_1_method_19_code (5 : Nat) (Option.some Jvm.ClassFile.FieldType.int)) ∈ lw_all := lw_g (lw_at lw_m1 133 rfl) rfl
theorem q155 : (Jvm.Cond.instanceMethod ({ cls := "ParityGame", name := "plans", desc := "(I)I" } : Jvm.MethodName)) ∈ lw_all := lw_g (lw_at lw_m1 135 rfl) rfl
theorem q156 : (Jvm.Cond.selects "ParityGame" ({ cls := "ParityGame", name := "plans", desc := "(I)I" } : Jvm.MethodName) ({ cls := "ParityGame", name := "plans", desc := "(I)I" } : Jvm.MethodName)) ∈ lw_all := lw_g (lw_at lw_m1 136 rfl) rfl
theorem q157 : (Jvm.Cond.code ({ cls := "ParityGame", name := "plans", desc := "(I)I" } : Jvm.MethodName) prog_1_method_25_code (5 : Nat) (Option.some Jvm.ClassFile.FieldType.int)) ∈ lw_all := lw_g (lw_at lw_m1 137 rfl) rfl
theorem q159 : (Jvm.Cond.instanceMethod ({ cls := "ParityGame", name := "firstPlan", desc := "(I)I" } : Jvm.MethodName)) ∈ lw_all := lw_g (lw_at lw_m1 139 rfl) rfl
theorem q160 : (Jvm.Cond.selects "ParityGame" ({ cls := "ParityGame", name := "firstPlan", desc := "(I)I" } : Jvm.MethodName) ({ cls := "ParityGame", name := "firstPlan", desc := "(I)I" } : Jvm.MethodName)) ∈ lw_all := lw_g (lw_at lw_m1 140 rfl) rfl
theorem q161 : (Jvm.Cond.code ({ cls := "ParityGame", name := "firstPlan", desc := "(I)I" } : Jvm.MethodName) prog_1_method_26_code (4 : Nat) (Option.some Jvm.ClassFile.FieldType.int)) ∈ lw_all := lw_g (lw_at lw_m1 141 rfl) rfl
theorem q163 : (Jvm.Cond.instanceMethod ({ cls := "ParityGame", name := "canForce", desc := "(II)Z" } : Jvm.MethodName)) ∈ lw_all := lw_g (lw_at lw_m1 143 rfl) rfl
theorem q164 : (Jvm.Cond.selects "ParityGame" ({ cls := "ParityGame", name := "canForce", desc := "(II)Z" } : Jvm.MethodName) ({ cls := "ParityGame", name := "canForce", desc := "(II)Z" } : Jvm.MethodName)) ∈ lw_all := lw_g (lw_at lw_m1 144 rfl) rfl
theorem q165 : (Jvm.Cond.code ({ cls := "ParityGame", name := "canForce", desc := "(II)Z" } : Jvm.MethodName) prog_1_method_27_code (4 : Nat) (Option.some Jvm.ClassFile.FieldType.boolean)) ∈ lw_all := lw_g (lw_at lw_m1 145 rfl) rfl
theorem q167 : (Jvm.Cond.instanceMethod ({ cls := "ParityGame", name := "contested", desc := "()I" } : Jvm.MethodName)) ∈ lw_all := lw_g (lw_at lw_m1 147 rfl) rfl
theorem q168 : (Jvm.Cond.selects "ParityGame" ({ cls := "ParityGame", name := "contested", desc := "()I" } : Jvm.MethodName) ({ cls := "ParityGame", name := "contested", desc := "()I" } : Jvm.MethodName)) ∈ lw_all := lw_g (lw_at lw_m1 148 rfl) rfl
theorem q169 : (Jvm.Cond.code ({ cls := "ParityGame", name := "contested", desc := "()I" } : Jvm.MethodName) prog_1_method_28_code (4 : Nat) (Option.some Jvm.ClassFile.FieldType.int)) ∈ lw_all := lw_g (lw_at lw_m1 149 rfl) rfl
theorem in_X0 : ∀ w ∈ wsX00, w ∈ lw_all := lw_in wsX00 [41, 43, 45, 47, 49, 51, 53, 55, 57, 59] (by decide +kernel) (by decide +kernel)
theorem q22 : (Jvm.Cond.initialized "ParityGameModel") ∈ lw_all := lw_g (lw_at lw_m1 2 rfl) rfl
theorem q171 : (Jvm.Cond.instantiable "ParityGameModel" (7 : Nat)) ∈ lw_all := lw_g (lw_at lw_m1 151 rfl) rfl
theorem q173 : (Jvm.Cond.instanceMethod ({ cls := "ParityGameModel", name := "<init>", desc := "()V" } : Jvm.MethodName)) ∈ lw_all := lw_g (lw_at lw_m1 153 rfl) rfl
theorem q174 : (Jvm.Cond.code ({ cls := "ParityGameModel", name := "<init>", desc := "()V" } : Jvm.MethodName) prog_3_method_1_code (2 : Nat) (Option.none : Option Jvm.ClassFile.FieldType)) ∈ lw_all := lw_g (lw_at lw_m1 154 rfl) rfl
theorem q175 : (Jvm.Cond.methodLink "ParityGameModel" (1 : Nat) ({ cls := "java/lang/Object", name := "<init>", desc := "()V" } : Jvm.MethodName)) ∈ lw_all := lw_g (lw_at lw_m1 155 rfl) rfl
theorem q176 : (Jvm.Cond.fieldLink "ParityGameModel" (7 : Nat) "ParityGameModel" "owners" "[I") ∈ lw_all := lw_g (lw_at lw_m1 156 rfl) rfl
theorem q177 : (Jvm.Cond.fieldLink "ParityGameModel" (13 : Nat) "ParityGameModel" "colours" "[I") ∈ lw_all := lw_g (lw_at lw_m1 157 rfl) rfl
theorem q178 : (Jvm.Cond.fieldLink "ParityGameModel" (16 : Nat) "ParityGameModel" "firsts" "[I") ∈ lw_all := lw_g (lw_at lw_m1 158 rfl) rfl
theorem q179 : (Jvm.Cond.fieldLink "ParityGameModel" (19 : Nat) "ParityGameModel" "seconds" "[I") ∈ lw_all := lw_g (lw_at lw_m1 159 rfl) rfl
theorem q180 : (Jvm.Cond.fieldLink "ParityGameModel" (22 : Nat) "ParityGameModel" "reach" "[I") ∈ lw_all := lw_g (lw_at lw_m1 160 rfl) rfl
theorem q181 : (Jvm.Cond.fieldLink "ParityGameModel" (32 : Nat) "ParityGameModel" "known" "Z") ∈ lw_all := lw_g (lw_at lw_m1 161 rfl) rfl
theorem q182 : (Jvm.Cond.fieldLink "ParityGameModel" (51 : Nat) "ParityGameModel" "wins" "I") ∈ lw_all := lw_g (lw_at lw_m1 162 rfl) rfl
theorem q183 : (Jvm.Cond.laysFinal "ParityGameModel" "ParityGameModel" "owners" "[I") ∈ lw_all := lw_g (lw_at lw_m1 163 rfl) rfl
theorem q184 : (Jvm.Cond.soleField "ParityGameModel" "owners") ∈ lw_all := lw_g (lw_at lw_m1 164 rfl) rfl
theorem q185 : (Jvm.Cond.laysFinal "ParityGameModel" "ParityGameModel" "colours" "[I") ∈ lw_all := lw_g (lw_at lw_m1 165 rfl) rfl
theorem q186 : (Jvm.Cond.soleField "ParityGameModel" "colours") ∈ lw_all := lw_g (lw_at lw_m1 166 rfl) rfl
theorem q187 : (Jvm.Cond.laysFinal "ParityGameModel" "ParityGameModel" "firsts" "[I") ∈ lw_all := lw_g (lw_at lw_m1 167 rfl) rfl
theorem q188 : (Jvm.Cond.soleField "ParityGameModel" "firsts") ∈ lw_all := lw_g (lw_at lw_m1 168 rfl) rfl
theorem q189 : (Jvm.Cond.laysFinal "ParityGameModel" "ParityGameModel" "seconds" "[I") ∈ lw_all := lw_g (lw_at lw_m1 169 rfl) rfl
theorem q190 : (Jvm.Cond.soleField "ParityGameModel" "seconds") ∈ lw_all := lw_g (lw_at lw_m1 170 rfl) rfl
theorem q191 : (Jvm.Cond.laysFinal "ParityGameModel" "ParityGameModel" "reach" "[I") ∈ lw_all := lw_g (lw_at lw_m1 171 rfl) rfl
theorem q192 : (Jvm.Cond.soleField "ParityGameModel" "reach") ∈ lw_all := lw_g (lw_at lw_m1 172 rfl) rfl
theorem q193 : (Jvm.Cond.lays "ParityGameModel" "ParityGameModel" "known" "Z") ∈ lw_all := lw_g (lw_at lw_m1 173 rfl) rfl
theorem q194 : (Jvm.Cond.soleField "ParityGameModel" "known") ∈ lw_all := lw_g (lw_at lw_m1 174 rfl) rfl
theorem q195 : (Jvm.Cond.lays "ParityGameModel" "ParityGameModel" "wins" "I") ∈ lw_all := lw_g (lw_at lw_m1 175 rfl) rfl
theorem q196 : (Jvm.Cond.soleField "ParityGameModel" "wins") ∈ lw_all := lw_g (lw_at lw_m1 176 rfl) rfl
theorem q197 : (Jvm.Cond.superclass "ParityGameModel" "java/lang/Object") ∈ lw_all := lw_g (lw_at lw_m1 177 rfl) rfl
theorem q199 : (Jvm.Cond.instanceMethod ({ cls := "ParityGameModel", name := "set", desc := "(IIII)I" } : Jvm.MethodName)) ∈ lw_all := lw_g (lw_at lw_m1 179 rfl) rfl
theorem q200 : (Jvm.Cond.selects "ParityGameModel" ({ cls := "ParityGameModel", name := "set", desc := "(IIII)I" } : Jvm.MethodName) ({ cls := "ParityGameModel", name := "set", desc := "(IIII)I" } : Jvm.MethodName)) ∈ lw_all := lw_g (lw_at lw_m1 180 rfl) rfl
theorem q201 : (Jvm.Cond.code ({ cls := "ParityGameModel", name := "set", desc := "(IIII)I" } : Jvm.MethodName) prog_3_method_4_code (5 : Nat) (Option.some Jvm.ClassFile.FieldType.int)) ∈ lw_all := lw_g (lw_at lw_m1 181 rfl) rfl
theorem q202 : (Jvm.Cond.methodLink "ParityGameModel" (25 : Nat) ({ cls := "ParityGameModel", name := "bad", desc := "(I)Z" } : Jvm.MethodName)) ∈ lw_all := lw_g (lw_at lw_m1 182 rfl) rfl
theorem q203 : (Jvm.Cond.privateMethod ({ cls := "ParityGameModel", name := "bad", desc := "(I)Z" } : Jvm.MethodName)) ∈ lw_tbl := lw_at lw_m1 183 rfl
theorem q204 : (Jvm.Cond.instanceMethod ({ cls := "ParityGameModel", name := "bad", desc := "(I)Z" } : Jvm.MethodName)) ∈ lw_all := lw_g (lw_at lw_m1 184 rfl) rfl
theorem q205 : (Jvm.Cond.code ({ cls := "ParityGameModel", name := "bad", desc := "(I)Z" } : Jvm.MethodName) prog_3_method_2_code (2 : Nat) (Option.some Jvm.ClassFile.FieldType.boolean)) ∈ lw_all := lw_g (lw_at lw_m1 185 rfl) rfl
theorem q206 : (Jvm.Cond.methodLink "ParityGameModel" (29 : Nat) ({ cls := "ParityGameModel", name := "badColour", desc := "(I)Z" } : Jvm.MethodName)) ∈ lw_all := lw_g (lw_at lw_m1 186 rfl) rfl
theorem q207 : (Jvm.Cond.privateMethod ({ cls := "ParityGameModel", name := "badColour", desc := "(I)Z" } : Jvm.MethodName)) ∈ lw_tbl := lw_at lw_m1 187 rfl
theorem q208 : (Jvm.Cond.instanceMethod ({ cls := "ParityGameModel", name := "badColour", desc := "(I)Z" } : Jvm.MethodName)) ∈ lw_all := lw_g (lw_at lw_m1 188 rfl) rfl
theorem q209 : (Jvm.Cond.code ({ cls := "ParityGameModel", name := "badColour", desc := "(I)Z" } : Jvm.MethodName) prog_3_method_3_code (2 : Nat) (Option.some Jvm.ClassFile.FieldType.boolean)) ∈ lw_all := lw_g (lw_at lw_m1 189 rfl) rfl
theorem q211 : (Jvm.Cond.instanceMethod ({ cls := "ParityGameModel", name := "paint", desc := "(II)I" } : Jvm.MethodName)) ∈ lw_all := lw_g (lw_at lw_m1 191 rfl) rfl
theorem q212 : (Jvm.Cond.selects "ParityGameModel" ({ cls := "ParityGameModel", name := "paint", desc := "(II)I" } : Jvm.MethodName) ({ cls := "ParityGameModel", name := "paint", desc := "(II)I" } : Jvm.MethodName)) ∈ lw_all := lw_g (lw_at lw_m1 192 rfl) rfl
theorem q213 : (Jvm.Cond.code ({ cls := "ParityGameModel", name := "paint", desc := "(II)I" } : Jvm.MethodName) prog_3_method_5_code (4 : Nat) (Option.some Jvm.ClassFile.FieldType.int)) ∈ lw_all := lw_g (lw_at lw_m1 193 rfl) rfl
theorem q215 : (Jvm.Cond.instanceMethod ({ cls := "ParityGameModel", name := "hand", desc := "(I)I" } : Jvm.MethodName)) ∈ lw_all := lw_g (lw_at lw_m1 195 rfl) rfl
theorem q216 : (Jvm.Cond.selects "ParityGameModel" ({ cls := "ParityGameModel", name := "hand", desc := "(I)I" } : Jvm.MethodName) ({ cls := "ParityGameModel", name := "hand", desc := "(I)I" } : Jvm.MethodName)) ∈ lw_all := lw_g (lw_at lw_m1 196 rfl) rfl
theorem q217 : (Jvm.Cond.code ({ cls := "ParityGameModel", name := "hand", desc := "(I)I" } : Jvm.MethodName) prog_3_method_6_code (2 : Nat) (Option.some Jvm.ClassFile.FieldType.int)) ∈ lw_all := lw_g (lw_at lw_m1 197 rfl) rfl
theorem q219 : (Jvm.Cond.instanceMethod ({ cls := "ParityGameModel", name := "mirror", desc := "()V" } : Jvm.MethodName)) ∈ lw_all := lw_g (lw_at lw_m1 199 rfl) rfl
theorem q220 : (Jvm.Cond.selects "ParityGameModel" ({ cls := "ParityGameModel", name := "mirror", desc := "()V" } : Jvm.MethodName) ({ cls := "ParityGameModel", name := "mirror", desc := "()V" } : Jvm.MethodName)) ∈ lw_all := lw_g (lw_at lw_m1 200 rfl) rfl
theorem q221 : (Jvm.Cond.code ({ cls := "ParityGameModel", name := "mirror", desc := "()V" } : Jvm.MethodName) prog_3_method_7_code (2 : Nat) (Option.none : Option Jvm.ClassFile.FieldType)) ∈ lw_all := lw_g (lw_at lw_m1 201 rfl) rfl
theorem q223 : (Jvm.Cond.instanceMethod ({ cls := "ParityGameModel", name := "winner", desc := "(I)I" } : Jvm.MethodName)) ∈ lw_all := lw_g (lw_at lw_m1 203 rfl) rfl
theorem q224 : (Jvm.Cond.selects "ParityGameModel" ({ cls := "ParityGameModel", name := "winner", desc := "(I)I" } : Jvm.MethodName) ({ cls := "ParityGameModel", name := "winner", desc := "(I)I" } : Jvm.MethodName)) ∈ lw_all := lw_g (lw_at lw_m1 204 rfl) rfl
theorem q225 : (Jvm.Cond.code ({ cls := "ParityGameModel", name := "winner", desc := "(I)I" } : Jvm.MethodName) prog_3_method_11_code (2 : Nat) (Option.some Jvm.ClassFile.FieldType.int)) ∈ lw_all := lw_g (lw_at lw_m1 205 rfl) rfl
theorem q226 : (Jvm.Cond.methodLink "ParityGameModel" (44 : Nat) ({ cls := "ParityGameModel", name := "region", desc := "()I" } : Jvm.MethodName)) ∈ lw_all := lw_g (lw_at lw_m1 206 rfl) rfl
theorem q227 : (Jvm.Cond.instanceMethod ({ cls := "ParityGameModel", name := "region", desc := "()I" } : Jvm.MethodName)) ∈ lw_all := lw_g (lw_at lw_m1 207 rfl) rfl
theorem q228 : (Jvm.Cond.selects "ParityGameModel" ({ cls := "ParityGameModel", name := "region", desc := "()I" } : Jvm.MethodName) ({ cls := "ParityGameModel", name := "region", desc := "()I" } : Jvm.MethodName)) ∈ lw_all := lw_g (lw_at lw_m1 208 rfl) rfl
theorem q229 : (Jvm.Cond.code ({ cls := "ParityGameModel", name := "region", desc := "()I" } : Jvm.MethodName) prog_3_method_12_code (1 : Nat) (Option.some Jvm.ClassFile.FieldType.int)) ∈ lw_all := lw_g (lw_at lw_m1 209 rfl) rfl
theorem q230 : (Jvm.Cond.methodLink "ParityGameModel" (48 : Nat) ({ cls := "ParityGameModel", name := "wonBy0", desc := "()I" } : Jvm.MethodName)) ∈ lw_all := lw_g (lw_at lw_m1 210 rfl) rfl
theorem q231 : (Jvm.Cond.privateMethod ({ cls := "ParityGameModel", name := "wonBy0", desc := "()I" } : Jvm.MethodName)) ∈ lw_tbl := lw_at lw_m1 211 rfl
theorem q232 : (Jvm.Cond.instanceMethod ({ cls := "ParityGameModel", name := "wonBy0", desc := "()I" } : Jvm.MethodName)) ∈ lw_all := lw_g (lw_at lw_m1 212 rfl) rfl
theorem q233 : (Jvm.Cond.code ({ cls := "ParityGameModel", name := "wonBy0", desc := "()I" } : Jvm.MethodName) prog_3_method_10_code (5 : Nat) (Option.some Jvm.ClassFile.FieldType.int)) ∈ lw_all := lw_g (lw_at lw_m1 213 rfl) rfl
theorem q234 : (Jvm.Cond.methodLink "ParityGameModel" (40 : Nat) ({ cls := "ParityGameModel", name := "plan", desc := "(II)I" } : Jvm.MethodName)) ∈ lw_all := lw_g (lw_at lw_m1 214 rfl) rfl
theorem q235 : (Jvm.Cond.privateMethod ({ cls := "ParityGameModel", name := "plan", desc := "(II)I" } : Jvm.MethodName)) ∈ lw_tbl := lw_at lw_m1 215 rfl
theorem q236 : (Jvm.Cond.instanceMethod ({ cls := "ParityGameModel", name := "plan", desc := "(II)I" } : Jvm.MethodName)) ∈ lw_all := lw_g (lw_at lw_m1 216 rfl) rfl
theorem q237 : (Jvm.Cond.code ({ cls := "ParityGameModel", name := "plan", desc := "(II)I" } : Jvm.MethodName) prog_3_method_9_code (6 : Nat) (Option.some Jvm.ClassFile.FieldType.int)) ∈ lw_all := lw_g (lw_at lw_m1 217 rfl) rfl
theorem q238 : (Jvm.Cond.methodLink "ParityGameModel" (36 : Nat) ({ cls := "ParityGameModel", name := "close", desc := "(III)V" } : Jvm.MethodName)) ∈ lw_all := lw_g (lw_at lw_m1 218 rfl) rfl
theorem q239 : (Jvm.Cond.privateMethod ({ cls := "ParityGameModel", name := "close", desc := "(III)V" } : Jvm.MethodName)) ∈ lw_tbl := lw_at lw_m1 219 rfl
theorem q240 : (Jvm.Cond.instanceMethod ({ cls := "ParityGameModel", name := "close", desc := "(III)V" } : Jvm.MethodName)) ∈ lw_all := lw_g (lw_at lw_m1 220 rfl) rfl
theorem q241 : (Jvm.Cond.code ({ cls := "ParityGameModel", name := "close", desc := "(III)V" } : Jvm.MethodName) prog_3_method_8_code (10 : Nat) (Option.none : Option Jvm.ClassFile.FieldType)) ∈ lw_all := lw_g (lw_at lw_m1 221 rfl) rfl
theorem q244 : (Jvm.Cond.instanceMethod ({ cls := "ParityGameModel", name := "good", desc := "(II)Z" } : Jvm.MethodName)) ∈ lw_all := lw_g (lw_at lw_m1 224 rfl) rfl
theorem q245 : (Jvm.Cond.selects "ParityGameModel" ({ cls := "ParityGameModel", name := "good", desc := "(II)Z" } : Jvm.MethodName) ({ cls := "ParityGameModel", name := "good", desc := "(II)Z" } : Jvm.MethodName)) ∈ lw_all := lw_g (lw_at lw_m1 225 rfl) rfl
theorem q246 : (Jvm.Cond.code ({ cls := "ParityGameModel", name := "good", desc := "(II)Z" } : Jvm.MethodName) prog_3_method_13_code (5 : Nat) (Option.some Jvm.ClassFile.FieldType.boolean)) ∈ lw_all := lw_g (lw_at lw_m1 226 rfl) rfl
theorem q248 : (Jvm.Cond.instanceMethod ({ cls := "ParityGameModel", name := "plans", desc := "(I)I" } : Jvm.MethodName)) ∈ lw_all := lw_g (lw_at lw_m1 228 rfl) rfl
theorem q249 : (Jvm.Cond.selects "ParityGameModel" ({ cls := "ParityGameModel", name := "plans", desc := "(I)I" } : Jvm.MethodName) ({ cls := "ParityGameModel", name := "plans", desc := "(I)I" } : Jvm.MethodName)) ∈ lw_all := lw_g (lw_at lw_m1 229 rfl) rfl
theorem q250 : (Jvm.Cond.code ({ cls := "ParityGameModel", name := "plans", desc := "(I)I" } : Jvm.MethodName) prog_3_method_14_code (4 : Nat) (Option.some Jvm.ClassFile.FieldType.int)) ∈ lw_all := lw_g (lw_at lw_m1 230 rfl) rfl
theorem q251 : (Jvm.Cond.methodLink "ParityGameModel" (55 : Nat) ({ cls := "ParityGameModel", name := "good", desc := "(II)Z" } : Jvm.MethodName)) ∈ lw_all := lw_g (lw_at lw_m1 231 rfl) rfl
theorem q253 : (Jvm.Cond.instanceMethod ({ cls := "ParityGameModel", name := "firstPlan", desc := "(I)I" } : Jvm.MethodName)) ∈ lw_all := lw_g (lw_at lw_m1 233 rfl) rfl
theorem q254 : (Jvm.Cond.selects "ParityGameModel" ({ cls := "ParityGameModel", name := "firstPlan", desc := "(I)I" } : Jvm.MethodName) ({ cls := "ParityGameModel", name := "firstPlan", desc := "(I)I" } : Jvm.MethodName)) ∈ lw_all := lw_g (lw_at lw_m1 234 rfl) rfl
theorem q255 : (Jvm.Cond.code ({ cls := "ParityGameModel", name := "firstPlan", desc := "(I)I" } : Jvm.MethodName) prog_3_method_15_code (3 : Nat) (Option.some Jvm.ClassFile.FieldType.int)) ∈ lw_all := lw_g (lw_at lw_m1 235 rfl) rfl
theorem q257 : (Jvm.Cond.instanceMethod ({ cls := "ParityGameModel", name := "canForce", desc := "(II)Z" } : Jvm.MethodName)) ∈ lw_all := lw_g (lw_at lw_m1 237 rfl) rfl
theorem q258 : (Jvm.Cond.selects "ParityGameModel" ({ cls := "ParityGameModel", name := "canForce", desc := "(II)Z" } : Jvm.MethodName) ({ cls := "ParityGameModel", name := "canForce", desc := "(II)Z" } : Jvm.MethodName)) ∈ lw_all := lw_g (lw_at lw_m1 238 rfl) rfl
theorem q259 : (Jvm.Cond.code ({ cls := "ParityGameModel", name := "canForce", desc := "(II)Z" } : Jvm.MethodName) prog_3_method_16_code (8 : Nat) (Option.some Jvm.ClassFile.FieldType.boolean)) ∈ lw_all := lw_g (lw_at lw_m1 239 rfl) rfl
theorem q261 : (Jvm.Cond.instanceMethod ({ cls := "ParityGameModel", name := "contested", desc := "()I" } : Jvm.MethodName)) ∈ lw_all := lw_g (lw_at lw_m2 1 rfl) rfl
theorem q262 : (Jvm.Cond.selects "ParityGameModel" ({ cls := "ParityGameModel", name := "contested", desc := "()I" } : Jvm.MethodName) ({ cls := "ParityGameModel", name := "contested", desc := "()I" } : Jvm.MethodName)) ∈ lw_all := lw_g (lw_at lw_m2 2 rfl) rfl
theorem q263 : (Jvm.Cond.code ({ cls := "ParityGameModel", name := "contested", desc := "()I" } : Jvm.MethodName) prog_3_method_17_code (4 : Nat) (Option.some Jvm.ClassFile.FieldType.int)) ∈ lw_all := lw_g (lw_at lw_m2 3 rfl) rfl
theorem in_X1 : ∀ w ∈ wsX10, w ∈ lw_all := lw_in wsX10 [183, 185, 187, 189, 191, 193, 195] (by decide +kernel) (by decide +kernel)
theorem q29 : (Jvm.Cond.instanceMethod ({ cls := "java/lang/Object", name := "<init>", desc := "()V" } : Jvm.MethodName)) ∈ lw_all := lw_g (lw_at lw_m1 9 rfl) rfl
theorem q30 : (Jvm.Cond.code ({ cls := "java/lang/Object", name := "<init>", desc := "()V" } : Jvm.MethodName) object_method_1_code (1 : Nat) (Option.none : Option Jvm.ClassFile.FieldType)) ∈ lw_all := lw_g (lw_at lw_m1 10 rfl) rfl
theorem q20 : (Jvm.Cond.initialized "ParityGameLaw") ∈ lw_all := lw_g (lw_at lw_m1 0 rfl) rfl
theorem q23 : (Jvm.Cond.classLink "ParityGameLaw" (7 : Nat) "ParityGame") ∈ lw_all := lw_g (lw_at lw_m1 3 rfl) rfl
theorem q25 : (Jvm.Cond.methodLink "ParityGameLaw" (9 : Nat) ({ cls := "ParityGame", name := "<init>", desc := "()V" } : Jvm.MethodName)) ∈ lw_all := lw_g (lw_at lw_m1 5 rfl) rfl
theorem q63 : (Jvm.Cond.methodLink "ParityGameLaw" (13 : Nat) ({ cls := "ParityGame", name := "set", desc := "(IIII)I" } : Jvm.MethodName)) ∈ lw_all := lw_g (lw_at lw_m1 43 rfl) rfl
theorem q70 : (Jvm.Cond.methodLink "ParityGameLaw" (18 : Nat) ({ cls := "ParityGame", name := "paint", desc := "(II)I" } : Jvm.MethodName)) ∈ lw_all := lw_g (lw_at lw_m1 50 rfl) rfl
theorem q74 : (Jvm.Cond.methodLink "ParityGameLaw" (23 : Nat) ({ cls := "ParityGame", name := "hand", desc := "(I)I" } : Jvm.MethodName)) ∈ lw_all := lw_g (lw_at lw_m1 54 rfl) rfl
theorem q82 : (Jvm.Cond.methodLink "ParityGameLaw" (28 : Nat) ({ cls := "ParityGame", name := "mirror", desc := "()V" } : Jvm.MethodName)) ∈ lw_all := lw_g (lw_at lw_m1 62 rfl) rfl
theorem q86 : (Jvm.Cond.methodLink "ParityGameLaw" (32 : Nat) ({ cls := "ParityGame", name := "winner", desc := "(I)I" } : Jvm.MethodName)) ∈ lw_all := lw_g (lw_at lw_m1 66 rfl) rfl
theorem q126 : (Jvm.Cond.methodLink "ParityGameLaw" (36 : Nat) ({ cls := "ParityGame", name := "region", desc := "()I" } : Jvm.MethodName)) ∈ lw_all := lw_g (lw_at lw_m1 106 rfl) rfl
theorem q130 : (Jvm.Cond.methodLink "ParityGameLaw" (41 : Nat) ({ cls := "ParityGame", name := "good", desc := "(II)Z" } : Jvm.MethodName)) ∈ lw_all := lw_g (lw_at lw_m1 110 rfl) rfl
theorem q154 : (Jvm.Cond.methodLink "ParityGameLaw" (46 : Nat) ({ cls := "ParityGame", name := "plans", desc := "(I)I" } : Jvm.MethodName)) ∈ lw_all := lw_g (lw_at lw_m1 134 rfl) rfl
theorem q158 : (Jvm.Cond.methodLink "ParityGameLaw" (50 : Nat) ({ cls := "ParityGame", name := "firstPlan", desc := "(I)I" } : Jvm.MethodName)) ∈ lw_all := lw_g (lw_at lw_m1 138 rfl) rfl
theorem q162 : (Jvm.Cond.methodLink "ParityGameLaw" (54 : Nat) ({ cls := "ParityGame", name := "canForce", desc := "(II)Z" } : Jvm.MethodName)) ∈ lw_all := lw_g (lw_at lw_m1 142 rfl) rfl
theorem q166 : (Jvm.Cond.methodLink "ParityGameLaw" (58 : Nat) ({ cls := "ParityGame", name := "contested", desc := "()I" } : Jvm.MethodName)) ∈ lw_all := lw_g (lw_at lw_m1 146 rfl) rfl
theorem q170 : (Jvm.Cond.classLink "ParityGameLaw" (10 : Nat) "ParityGameModel") ∈ lw_all := lw_g (lw_at lw_m1 150 rfl) rfl
theorem q172 : (Jvm.Cond.methodLink "ParityGameLaw" (12 : Nat) ({ cls := "ParityGameModel", name := "<init>", desc := "()V" } : Jvm.MethodName)) ∈ lw_all := lw_g (lw_at lw_m1 152 rfl) rfl
theorem q198 : (Jvm.Cond.methodLink "ParityGameLaw" (17 : Nat) ({ cls := "ParityGameModel", name := "set", desc := "(IIII)I" } : Jvm.MethodName)) ∈ lw_all := lw_g (lw_at lw_m1 178 rfl) rfl
theorem q210 : (Jvm.Cond.methodLink "ParityGameLaw" (22 : Nat) ({ cls := "ParityGameModel", name := "paint", desc := "(II)I" } : Jvm.MethodName)) ∈ lw_all := lw_g (lw_at lw_m1 190 rfl) rfl
theorem q214 : (Jvm.Cond.methodLink "ParityGameLaw" (27 : Nat) ({ cls := "ParityGameModel", name := "hand", desc := "(I)I" } : Jvm.MethodName)) ∈ lw_all := lw_g (lw_at lw_m1 194 rfl) rfl
theorem q218 : (Jvm.Cond.methodLink "ParityGameLaw" (31 : Nat) ({ cls := "ParityGameModel", name := "mirror", desc := "()V" } : Jvm.MethodName)) ∈ lw_all := lw_g (lw_at lw_m1 198 rfl) rfl
theorem q222 : (Jvm.Cond.methodLink "ParityGameLaw" (35 : Nat) ({ cls := "ParityGameModel", name := "winner", desc := "(I)I" } : Jvm.MethodName)) ∈ lw_all := lw_g (lw_at lw_m1 202 rfl) rfl
theorem q242 : (Jvm.Cond.methodLink "ParityGameLaw" (40 : Nat) ({ cls := "ParityGameModel", name := "region", desc := "()I" } : Jvm.MethodName)) ∈ lw_all := lw_g (lw_at lw_m1 222 rfl) rfl
theorem q243 : (Jvm.Cond.methodLink "ParityGameLaw" (45 : Nat) ({ cls := "ParityGameModel", name := "good", desc := "(II)Z" } : Jvm.MethodName)) ∈ lw_all := lw_g (lw_at lw_m1 223 rfl) rfl
theorem q247 : (Jvm.Cond.methodLink "ParityGameLaw" (49 : Nat) ({ cls := "ParityGameModel", name := "plans", desc := "(I)I" } : Jvm.MethodName)) ∈ lw_all := lw_g (lw_at lw_m1 227 rfl) rfl
theorem q252 : (Jvm.Cond.methodLink "ParityGameLaw" (53 : Nat) ({ cls := "ParityGameModel", name := "firstPlan", desc := "(I)I" } : Jvm.MethodName)) ∈ lw_all := lw_g (lw_at lw_m1 232 rfl) rfl
theorem q256 : (Jvm.Cond.methodLink "ParityGameLaw" (57 : Nat) ({ cls := "ParityGameModel", name := "canForce", desc := "(II)Z" } : Jvm.MethodName)) ∈ lw_all := lw_g (lw_at lw_m1 236 rfl) rfl
theorem q260 : (Jvm.Cond.methodLink "ParityGameLaw" (61 : Nat) ({ cls := "ParityGameModel", name := "contested", desc := "()I" } : Jvm.MethodName)) ∈ lw_all := lw_g (lw_at lw_m2 0 rfl) rfl
theorem q62 : (Jvm.Cond.arrayClass Jvm.ClassFile.FieldType.int) ∈ lw_all := lw_g (lw_at lw_m1 42 rfl) rfl
end
section
/-! decode rows of X0 -/
set_option maxRecDepth 100000
theorem dX0_init_0 : decode cX0_init 0 = .ok (.aload_n 0, 1) := by decide +kernel
theorem dX0_init_1 : decode cX0_init 1 = .ok (.invokespecial 1, 3) := by decide +kernel
theorem dX0_init_4 : decode cX0_init 4 = .ok (.aload_n 0, 1) := by decide +kernel
theorem dX0_init_5 : decode cX0_init 5 = .ok (.bipush 8, 2) := by decide +kernel
theorem dX0_init_7 : decode cX0_init 7 = .ok (.newarray .int, 2) := by decide +kernel
theorem dX0_init_9 : decode cX0_init 9 = .ok (.putfield 7, 3) := by decide +kernel
theorem dX0_init_12 : decode cX0_init 12 = .ok (.aload_n 0, 1) := by decide +kernel
theorem dX0_init_13 : decode cX0_init 13 = .ok (.bipush 8, 2) := by decide +kernel
theorem dX0_init_15 : decode cX0_init 15 = .ok (.newarray .int, 2) := by decide +kernel
theorem dX0_init_17 : decode cX0_init 17 = .ok (.putfield 13, 3) := by decide +kernel
theorem dX0_init_20 : decode cX0_init 20 = .ok (.aload_n 0, 1) := by decide +kernel
theorem dX0_init_21 : decode cX0_init 21 = .ok (.bipush 8, 2) := by decide +kernel
theorem dX0_init_23 : decode cX0_init 23 = .ok (.newarray .int, 2) := by decide +kernel
theorem dX0_init_25 : decode cX0_init 25 = .ok (.putfield 16, 3) := by decide +kernel
theorem dX0_init_28 : decode cX0_init 28 = .ok (.aload_n 0, 1) := by decide +kernel
theorem dX0_init_29 : decode cX0_init 29 = .ok (.bipush 12, 2) := by decide +kernel
theorem dX0_init_31 : decode cX0_init 31 = .ok (.newarray .int, 2) := by decide +kernel
theorem dX0_init_33 : decode cX0_init 33 = .ok (.putfield 19, 3) := by decide +kernel
theorem dX0_init_36 : decode cX0_init 36 = .ok (.aload_n 0, 1) := by decide +kernel
theorem dX0_init_37 : decode cX0_init 37 = .ok (.bipush 12, 2) := by decide +kernel
theorem dX0_init_39 : decode cX0_init 39 = .ok (.newarray .int, 2) := by decide +kernel
theorem dX0_init_41 : decode cX0_init 41 = .ok (.putfield 22, 3) := by decide +kernel
theorem dX0_init_44 : decode cX0_init 44 = .ok (.aload_n 0, 1) := by decide +kernel
theorem dX0_init_45 : decode cX0_init 45 = .ok (.bipush 12, 2) := by decide +kernel
theorem dX0_init_47 : decode cX0_init 47 = .ok (.newarray .int, 2) := by decide +kernel
theorem dX0_init_49 : decode cX0_init 49 = .ok (.putfield 25, 3) := by decide +kernel
theorem dX0_init_52 : decode cX0_init 52 = .ok (.aload_n 0, 1) := by decide +kernel
theorem dX0_init_53 : decode cX0_init 53 = .ok (.iconst 2, 1) := by decide +kernel
theorem dX0_init_54 : decode cX0_init 54 = .ok (.newarray .int, 2) := by decide +kernel
theorem dX0_init_56 : decode cX0_init 56 = .ok (.putfield 28, 3) := by decide +kernel
theorem dX0_init_59 : decode cX0_init 59 = .ok (.aload_n 0, 1) := by decide +kernel
theorem dX0_init_60 : decode cX0_init 60 = .ok (.bipush 8, 2) := by decide +kernel
theorem dX0_init_62 : decode cX0_init 62 = .ok (.newarray .int, 2) := by decide +kernel
theorem dX0_init_64 : decode cX0_init 64 = .ok (.putfield 31, 3) := by decide +kernel
theorem dX0_init_67 : decode cX0_init 67 = .ok (.iconst 0, 1) := by decide +kernel
theorem dX0_init_68 : decode cX0_init 68 = .ok (.istore_n 1, 1) := by decide +kernel
theorem dX0_init_69 : decode cX0_init 69 = .ok (.iload_n 1, 1) := by decide +kernel
theorem dX0_init_70 : decode cX0_init 70 = .ok (.bipush 8, 2) := by decide +kernel
theorem dX0_init_72 : decode cX0_init 72 = .ok (.if_icmp .ge 23, 3) := by decide +kernel
theorem dX0_init_75 : decode cX0_init 75 = .ok (.aload_n 0, 1) := by decide +kernel
theorem dX0_init_76 : decode cX0_init 76 = .ok (.getfield 13, 3) := by decide +kernel
theorem dX0_init_79 : decode cX0_init 79 = .ok (.iload_n 1, 1) := by decide +kernel
theorem dX0_init_80 : decode cX0_init 80 = .ok (.iload_n 1, 1) := by decide +kernel
theorem dX0_init_81 : decode cX0_init 81 = .ok (.iastore, 1) := by decide +kernel
theorem dX0_init_82 : decode cX0_init 82 = .ok (.aload_n 0, 1) := by decide +kernel
theorem dX0_init_83 : decode cX0_init 83 = .ok (.getfield 16, 3) := by decide +kernel
theorem dX0_init_86 : decode cX0_init 86 = .ok (.iload_n 1, 1) := by decide +kernel
theorem dX0_init_87 : decode cX0_init 87 = .ok (.iload_n 1, 1) := by decide +kernel
theorem dX0_init_88 : decode cX0_init 88 = .ok (.iastore, 1) := by decide +kernel
theorem dX0_init_89 : decode cX0_init 89 = .ok (.iinc 1 1, 3) := by decide +kernel
theorem dX0_init_92 : decode cX0_init 92 = .ok (.goto (-23), 3) := by decide +kernel
theorem dX0_init_95 : decode cX0_init 95 = .ok (.return_, 1) := by decide +kernel
theorem dX0_set_0 : decode cX0_set 0 = .ok (.iload_n 1, 1) := by decide +kernel
theorem dX0_set_1 : decode cX0_set 1 = .ok (.invokestatic 38, 3) := by decide +kernel
theorem dX0_set_4 : decode cX0_set 4 = .ok (.ifCond .eq 5, 3) := by decide +kernel
theorem dX0_set_7 : decode cX0_set 7 = .ok (.iconst (-1), 1) := by decide +kernel
theorem dX0_set_8 : decode cX0_set 8 = .ok (.ireturn, 1) := by decide +kernel
theorem dX0_set_9 : decode cX0_set 9 = .ok (.iload_n 2, 1) := by decide +kernel
theorem dX0_set_10 : decode cX0_set 10 = .ok (.ifCond .lt 8, 3) := by decide +kernel
theorem dX0_set_13 : decode cX0_set 13 = .ok (.iload_n 2, 1) := by decide +kernel
theorem dX0_set_14 : decode cX0_set 14 = .ok (.iconst 1, 1) := by decide +kernel
theorem dX0_set_15 : decode cX0_set 15 = .ok (.if_icmp .le 6, 3) := by decide +kernel
theorem dX0_set_18 : decode cX0_set 18 = .ok (.bipush (-3), 2) := by decide +kernel
theorem dX0_set_20 : decode cX0_set 20 = .ok (.ireturn, 1) := by decide +kernel
theorem dX0_set_21 : decode cX0_set 21 = .ok (.iload_n 3, 1) := by decide +kernel
theorem dX0_set_22 : decode cX0_set 22 = .ok (.ifCond .lt 8, 3) := by decide +kernel
theorem dX0_set_25 : decode cX0_set 25 = .ok (.iload_n 3, 1) := by decide +kernel
theorem dX0_set_26 : decode cX0_set 26 = .ok (.iconst 5, 1) := by decide +kernel
theorem dX0_set_27 : decode cX0_set 27 = .ok (.if_icmp .le 6, 3) := by decide +kernel
theorem dX0_set_30 : decode cX0_set 30 = .ok (.bipush (-2), 2) := by decide +kernel
theorem dX0_set_32 : decode cX0_set 32 = .ok (.ireturn, 1) := by decide +kernel
theorem dX0_set_33 : decode cX0_set 33 = .ok (.aload_n 0, 1) := by decide +kernel
theorem dX0_set_34 : decode cX0_set 34 = .ok (.aload_n 0, 1) := by decide +kernel
theorem dX0_set_35 : decode cX0_set 35 = .ok (.getfield 34, 3) := by decide +kernel
theorem dX0_set_38 : decode cX0_set 38 = .ok (.iconst 1, 1) := by decide +kernel
theorem dX0_set_39 : decode cX0_set 39 = .ok (.iload_n 1, 1) := by decide +kernel
theorem dX0_set_40 : decode cX0_set 40 = .ok (.ishl, 1) := by decide +kernel
theorem dX0_set_41 : decode cX0_set 41 = .ok (.iconst (-1), 1) := by decide +kernel
theorem dX0_set_42 : decode cX0_set 42 = .ok (.ixor, 1) := by decide +kernel
theorem dX0_set_43 : decode cX0_set 43 = .ok (.iand, 1) := by decide +kernel
theorem dX0_set_44 : decode cX0_set 44 = .ok (.iload_n 2, 1) := by decide +kernel
theorem dX0_set_45 : decode cX0_set 45 = .ok (.iload_n 1, 1) := by decide +kernel
theorem dX0_set_46 : decode cX0_set 46 = .ok (.ishl, 1) := by decide +kernel
theorem dX0_set_47 : decode cX0_set 47 = .ok (.ior, 1) := by decide +kernel
theorem dX0_set_48 : decode cX0_set 48 = .ok (.putfield 34, 3) := by decide +kernel
theorem dX0_set_51 : decode cX0_set 51 = .ok (.aload_n 0, 1) := by decide +kernel
theorem dX0_set_52 : decode cX0_set 52 = .ok (.getfield 7, 3) := by decide +kernel
theorem dX0_set_55 : decode cX0_set 55 = .ok (.iload_n 1, 1) := by decide +kernel
theorem dX0_set_56 : decode cX0_set 56 = .ok (.iload_n 3, 1) := by decide +kernel
theorem dX0_set_57 : decode cX0_set 57 = .ok (.iastore, 1) := by decide +kernel
theorem dX0_set_58 : decode cX0_set 58 = .ok (.aload_n 0, 1) := by decide +kernel
theorem dX0_set_59 : decode cX0_set 59 = .ok (.getfield 13, 3) := by decide +kernel
theorem dX0_set_62 : decode cX0_set 62 = .ok (.iload_n 1, 1) := by decide +kernel
theorem dX0_set_63 : decode cX0_set 63 = .ok (.iload 4, 2) := by decide +kernel
theorem dX0_set_65 : decode cX0_set 65 = .ok (.bipush 7, 2) := by decide +kernel
theorem dX0_set_67 : decode cX0_set 67 = .ok (.iand, 1) := by decide +kernel
theorem dX0_set_68 : decode cX0_set 68 = .ok (.iastore, 1) := by decide +kernel
theorem dX0_set_69 : decode cX0_set 69 = .ok (.aload_n 0, 1) := by decide +kernel
theorem dX0_set_70 : decode cX0_set 70 = .ok (.getfield 16, 3) := by decide +kernel
theorem dX0_set_73 : decode cX0_set 73 = .ok (.iload_n 1, 1) := by decide +kernel
theorem dX0_set_74 : decode cX0_set 74 = .ok (.iload 4, 2) := by decide +kernel
theorem dX0_set_76 : decode cX0_set 76 = .ok (.iconst 3, 1) := by decide +kernel
theorem dX0_set_77 : decode cX0_set 77 = .ok (.ishr, 1) := by decide +kernel
theorem dX0_set_78 : decode cX0_set 78 = .ok (.bipush 7, 2) := by decide +kernel
theorem dX0_set_80 : decode cX0_set 80 = .ok (.iand, 1) := by decide +kernel
theorem dX0_set_81 : decode cX0_set 81 = .ok (.iastore, 1) := by decide +kernel
theorem dX0_set_82 : decode cX0_set 82 = .ok (.iconst 0, 1) := by decide +kernel
theorem dX0_set_83 : decode cX0_set 83 = .ok (.ireturn, 1) := by decide +kernel
theorem dX0_bad_0 : decode cX0_bad 0 = .ok (.iload_n 0, 1) := by decide +kernel
theorem dX0_bad_1 : decode cX0_bad 1 = .ok (.ifCond .lt 9, 3) := by decide +kernel
theorem dX0_bad_4 : decode cX0_bad 4 = .ok (.iload_n 0, 1) := by decide +kernel
theorem dX0_bad_5 : decode cX0_bad 5 = .ok (.bipush 8, 2) := by decide +kernel
theorem dX0_bad_7 : decode cX0_bad 7 = .ok (.if_icmp .lt 7, 3) := by decide +kernel
theorem dX0_bad_10 : decode cX0_bad 10 = .ok (.iconst 1, 1) := by decide +kernel
theorem dX0_bad_11 : decode cX0_bad 11 = .ok (.goto 4, 3) := by decide +kernel
theorem dX0_bad_14 : decode cX0_bad 14 = .ok (.iconst 0, 1) := by decide +kernel
theorem dX0_bad_15 : decode cX0_bad 15 = .ok (.ireturn, 1) := by decide +kernel
theorem dX0_paint_0 : decode cX0_paint 0 = .ok (.iload_n 1, 1) := by decide +kernel
theorem dX0_paint_1 : decode cX0_paint 1 = .ok (.invokestatic 38, 3) := by decide +kernel
theorem dX0_paint_4 : decode cX0_paint 4 = .ok (.ifCond .eq 5, 3) := by decide +kernel
theorem dX0_paint_7 : decode cX0_paint 7 = .ok (.iconst (-1), 1) := by decide +kernel
theorem dX0_paint_8 : decode cX0_paint 8 = .ok (.ireturn, 1) := by decide +kernel
theorem dX0_paint_9 : decode cX0_paint 9 = .ok (.iload_n 2, 1) := by decide +kernel
theorem dX0_paint_10 : decode cX0_paint 10 = .ok (.ifCond .lt 8, 3) := by decide +kernel
theorem dX0_paint_13 : decode cX0_paint 13 = .ok (.iload_n 2, 1) := by decide +kernel
theorem dX0_paint_14 : decode cX0_paint 14 = .ok (.iconst 5, 1) := by decide +kernel
theorem dX0_paint_15 : decode cX0_paint 15 = .ok (.if_icmp .le 6, 3) := by decide +kernel
theorem dX0_paint_18 : decode cX0_paint 18 = .ok (.bipush (-2), 2) := by decide +kernel
theorem dX0_paint_20 : decode cX0_paint 20 = .ok (.ireturn, 1) := by decide +kernel
theorem dX0_paint_21 : decode cX0_paint 21 = .ok (.aload_n 0, 1) := by decide +kernel
theorem dX0_paint_22 : decode cX0_paint 22 = .ok (.getfield 7, 3) := by decide +kernel
theorem dX0_paint_25 : decode cX0_paint 25 = .ok (.iload_n 1, 1) := by decide +kernel
theorem dX0_paint_26 : decode cX0_paint 26 = .ok (.iaload, 1) := by decide +kernel
theorem dX0_paint_27 : decode cX0_paint 27 = .ok (.istore_n 3, 1) := by decide +kernel
theorem dX0_paint_28 : decode cX0_paint 28 = .ok (.aload_n 0, 1) := by decide +kernel
theorem dX0_paint_29 : decode cX0_paint 29 = .ok (.getfield 7, 3) := by decide +kernel
theorem dX0_paint_32 : decode cX0_paint 32 = .ok (.iload_n 1, 1) := by decide +kernel
theorem dX0_paint_33 : decode cX0_paint 33 = .ok (.iload_n 2, 1) := by decide +kernel
theorem dX0_paint_34 : decode cX0_paint 34 = .ok (.iastore, 1) := by decide +kernel
theorem dX0_paint_35 : decode cX0_paint 35 = .ok (.iload_n 3, 1) := by decide +kernel
theorem dX0_paint_36 : decode cX0_paint 36 = .ok (.ireturn, 1) := by decide +kernel
theorem dX0_hand_0 : decode cX0_hand 0 = .ok (.iload_n 1, 1) := by decide +kernel
theorem dX0_hand_1 : decode cX0_hand 1 = .ok (.invokestatic 38, 3) := by decide +kernel
theorem dX0_hand_4 : decode cX0_hand 4 = .ok (.ifCond .eq 5, 3) := by decide +kernel
theorem dX0_hand_7 : decode cX0_hand 7 = .ok (.iconst (-1), 1) := by decide +kernel
theorem dX0_hand_8 : decode cX0_hand 8 = .ok (.ireturn, 1) := by decide +kernel
theorem dX0_hand_9 : decode cX0_hand 9 = .ok (.aload_n 0, 1) := by decide +kernel
theorem dX0_hand_10 : decode cX0_hand 10 = .ok (.dup, 1) := by decide +kernel
theorem dX0_hand_11 : decode cX0_hand 11 = .ok (.getfield 34, 3) := by decide +kernel
theorem dX0_hand_14 : decode cX0_hand 14 = .ok (.iconst 1, 1) := by decide +kernel
theorem dX0_hand_15 : decode cX0_hand 15 = .ok (.iload_n 1, 1) := by decide +kernel
theorem dX0_hand_16 : decode cX0_hand 16 = .ok (.ishl, 1) := by decide +kernel
theorem dX0_hand_17 : decode cX0_hand 17 = .ok (.ixor, 1) := by decide +kernel
theorem dX0_hand_18 : decode cX0_hand 18 = .ok (.putfield 34, 3) := by decide +kernel
theorem dX0_hand_21 : decode cX0_hand 21 = .ok (.aload_n 0, 1) := by decide +kernel
theorem dX0_hand_22 : decode cX0_hand 22 = .ok (.iload_n 1, 1) := by decide +kernel
theorem dX0_hand_23 : decode cX0_hand 23 = .ok (.invokevirtual 42, 3) := by decide +kernel
theorem dX0_hand_26 : decode cX0_hand 26 = .ok (.ireturn, 1) := by decide +kernel
theorem dX0_owner_0 : decode cX0_owner 0 = .ok (.aload_n 0, 1) := by decide +kernel
theorem dX0_owner_1 : decode cX0_owner 1 = .ok (.getfield 34, 3) := by decide +kernel
theorem dX0_owner_4 : decode cX0_owner 4 = .ok (.iload_n 1, 1) := by decide +kernel
theorem dX0_owner_5 : decode cX0_owner 5 = .ok (.ishr, 1) := by decide +kernel
theorem dX0_owner_6 : decode cX0_owner 6 = .ok (.iconst 1, 1) := by decide +kernel
theorem dX0_owner_7 : decode cX0_owner 7 = .ok (.iand, 1) := by decide +kernel
theorem dX0_owner_8 : decode cX0_owner 8 = .ok (.ireturn, 1) := by decide +kernel
theorem dX0_mirror_0 : decode cX0_mirror 0 = .ok (.aload_n 0, 1) := by decide +kernel
theorem dX0_mirror_1 : decode cX0_mirror 1 = .ok (.dup, 1) := by decide +kernel
theorem dX0_mirror_2 : decode cX0_mirror 2 = .ok (.getfield 34, 3) := by decide +kernel
theorem dX0_mirror_5 : decode cX0_mirror 5 = .ok (.sipush 255, 3) := by decide +kernel
theorem dX0_mirror_8 : decode cX0_mirror 8 = .ok (.ixor, 1) := by decide +kernel
theorem dX0_mirror_9 : decode cX0_mirror 9 = .ok (.putfield 34, 3) := by decide +kernel
theorem dX0_mirror_12 : decode cX0_mirror 12 = .ok (.iconst 0, 1) := by decide +kernel
theorem dX0_mirror_13 : decode cX0_mirror 13 = .ok (.istore_n 1, 1) := by decide +kernel
theorem dX0_mirror_14 : decode cX0_mirror 14 = .ok (.iload_n 1, 1) := by decide +kernel
theorem dX0_mirror_15 : decode cX0_mirror 15 = .ok (.bipush 8, 2) := by decide +kernel
theorem dX0_mirror_17 : decode cX0_mirror 17 = .ok (.if_icmp .ge 37, 3) := by decide +kernel
theorem dX0_mirror_20 : decode cX0_mirror 20 = .ok (.aload_n 0, 1) := by decide +kernel
theorem dX0_mirror_21 : decode cX0_mirror 21 = .ok (.getfield 7, 3) := by decide +kernel
theorem dX0_mirror_24 : decode cX0_mirror 24 = .ok (.iload_n 1, 1) := by decide +kernel
theorem dX0_mirror_25 : decode cX0_mirror 25 = .ok (.aload_n 0, 1) := by decide +kernel
theorem dX0_mirror_26 : decode cX0_mirror 26 = .ok (.getfield 7, 3) := by decide +kernel
theorem dX0_mirror_29 : decode cX0_mirror 29 = .ok (.iload_n 1, 1) := by decide +kernel
theorem dX0_mirror_30 : decode cX0_mirror 30 = .ok (.iaload, 1) := by decide +kernel
theorem dX0_mirror_31 : decode cX0_mirror 31 = .ok (.iconst 5, 1) := by decide +kernel
theorem dX0_mirror_32 : decode cX0_mirror 32 = .ok (.if_icmp .ne 7, 3) := by decide +kernel
theorem dX0_mirror_35 : decode cX0_mirror 35 = .ok (.iconst 0, 1) := by decide +kernel
theorem dX0_mirror_36 : decode cX0_mirror 36 = .ok (.goto 11, 3) := by decide +kernel
theorem dX0_mirror_39 : decode cX0_mirror 39 = .ok (.aload_n 0, 1) := by decide +kernel
theorem dX0_mirror_40 : decode cX0_mirror 40 = .ok (.getfield 7, 3) := by decide +kernel
theorem dX0_mirror_43 : decode cX0_mirror 43 = .ok (.iload_n 1, 1) := by decide +kernel
theorem dX0_mirror_44 : decode cX0_mirror 44 = .ok (.iaload, 1) := by decide +kernel
theorem dX0_mirror_45 : decode cX0_mirror 45 = .ok (.iconst 1, 1) := by decide +kernel
theorem dX0_mirror_46 : decode cX0_mirror 46 = .ok (.iadd, 1) := by decide +kernel
theorem dX0_mirror_47 : decode cX0_mirror 47 = .ok (.iastore, 1) := by decide +kernel
theorem dX0_mirror_48 : decode cX0_mirror 48 = .ok (.iinc 1 1, 3) := by decide +kernel
theorem dX0_mirror_51 : decode cX0_mirror 51 = .ok (.goto (-37), 3) := by decide +kernel
theorem dX0_mirror_54 : decode cX0_mirror 54 = .ok (.return_, 1) := by decide +kernel
theorem dX0_winner_0 : decode cX0_winner 0 = .ok (.iload_n 1, 1) := by decide +kernel
theorem dX0_winner_1 : decode cX0_winner 1 = .ok (.invokestatic 38, 3) := by decide +kernel
theorem dX0_winner_4 : decode cX0_winner 4 = .ok (.ifCond .eq 5, 3) := by decide +kernel
theorem dX0_winner_7 : decode cX0_winner 7 = .ok (.iconst (-1), 1) := by decide +kernel
theorem dX0_winner_8 : decode cX0_winner 8 = .ok (.ireturn, 1) := by decide +kernel
theorem dX0_winner_9 : decode cX0_winner 9 = .ok (.aload_n 0, 1) := by decide +kernel
theorem dX0_winner_10 : decode cX0_winner 10 = .ok (.invokevirtual 89, 3) := by decide +kernel
theorem dX0_winner_13 : decode cX0_winner 13 = .ok (.aload_n 0, 1) := by decide +kernel
theorem dX0_winner_14 : decode cX0_winner 14 = .ok (.getfield 28, 3) := by decide +kernel
theorem dX0_winner_17 : decode cX0_winner 17 = .ok (.iconst 1, 1) := by decide +kernel
theorem dX0_winner_18 : decode cX0_winner 18 = .ok (.iaload, 1) := by decide +kernel
theorem dX0_winner_19 : decode cX0_winner 19 = .ok (.iload_n 1, 1) := by decide +kernel
theorem dX0_winner_20 : decode cX0_winner 20 = .ok (.ishr, 1) := by decide +kernel
theorem dX0_winner_21 : decode cX0_winner 21 = .ok (.iconst 1, 1) := by decide +kernel
theorem dX0_winner_22 : decode cX0_winner 22 = .ok (.iand, 1) := by decide +kernel
theorem dX0_winner_23 : decode cX0_winner 23 = .ok (.ireturn, 1) := by decide +kernel
theorem dX0_solve_0 : decode cX0_solve 0 = .ok (.aload_n 0, 1) := by decide +kernel
theorem dX0_solve_1 : decode cX0_solve 1 = .ok (.iconst 0, 1) := by decide +kernel
theorem dX0_solve_2 : decode cX0_solve 2 = .ok (.putfield 49, 3) := by decide +kernel
theorem dX0_solve_5 : decode cX0_solve 5 = .ok (.aload_n 0, 1) := by decide +kernel
theorem dX0_solve_6 : decode cX0_solve 6 = .ok (.sipush 255, 3) := by decide +kernel
theorem dX0_solve_9 : decode cX0_solve 9 = .ok (.invokevirtual 63, 3) := by decide +kernel
theorem dX0_solve_12 : decode cX0_solve 12 = .ok (.iconst 0, 1) := by decide +kernel
theorem dX0_solve_13 : decode cX0_solve 13 = .ok (.istore_n 1, 1) := by decide +kernel
theorem dX0_solve_14 : decode cX0_solve 14 = .ok (.iload_n 1, 1) := by decide +kernel
theorem dX0_solve_15 : decode cX0_solve 15 = .ok (.sipush 2000, 3) := by decide +kernel
theorem dX0_solve_18 : decode cX0_solve 18 = .ok (.if_icmp .ge 63, 3) := by decide +kernel
theorem dX0_solve_21 : decode cX0_solve 21 = .ok (.aload_n 0, 1) := by decide +kernel
theorem dX0_solve_22 : decode cX0_solve 22 = .ok (.getfield 49, 3) := by decide +kernel
theorem dX0_solve_25 : decode cX0_solve 25 = .ok (.ifCond .le 56, 3) := by decide +kernel
theorem dX0_solve_28 : decode cX0_solve 28 = .ok (.aload_n 0, 1) := by decide +kernel
theorem dX0_solve_29 : decode cX0_solve 29 = .ok (.getfield 49, 3) := by decide +kernel
theorem dX0_solve_32 : decode cX0_solve 32 = .ok (.iconst 1, 1) := by decide +kernel
theorem dX0_solve_33 : decode cX0_solve 33 = .ok (.isub, 1) := by decide +kernel
theorem dX0_solve_34 : decode cX0_solve 34 = .ok (.istore_n 2, 1) := by decide +kernel
theorem dX0_solve_35 : decode cX0_solve 35 = .ok (.aload_n 0, 1) := by decide +kernel
theorem dX0_solve_36 : decode cX0_solve 36 = .ok (.getfield 22, 3) := by decide +kernel
theorem dX0_solve_39 : decode cX0_solve 39 = .ok (.iload_n 2, 1) := by decide +kernel
theorem dX0_solve_40 : decode cX0_solve 40 = .ok (.iaload, 1) := by decide +kernel
theorem dX0_solve_41 : decode cX0_solve 41 = .ok (.ifCond .ne 11, 3) := by decide +kernel
theorem dX0_solve_44 : decode cX0_solve 44 = .ok (.aload_n 0, 1) := by decide +kernel
theorem dX0_solve_45 : decode cX0_solve 45 = .ok (.iload_n 2, 1) := by decide +kernel
theorem dX0_solve_46 : decode cX0_solve 46 = .ok (.invokevirtual 67, 3) := by decide +kernel
theorem dX0_solve_49 : decode cX0_solve 49 = .ok (.goto 26, 3) := by decide +kernel
theorem dX0_solve_52 : decode cX0_solve 52 = .ok (.aload_n 0, 1) := by decide +kernel
theorem dX0_solve_53 : decode cX0_solve 53 = .ok (.getfield 22, 3) := by decide +kernel
theorem dX0_solve_56 : decode cX0_solve 56 = .ok (.iload_n 2, 1) := by decide +kernel
theorem dX0_solve_57 : decode cX0_solve 57 = .ok (.iaload, 1) := by decide +kernel
theorem dX0_solve_58 : decode cX0_solve 58 = .ok (.iconst 1, 1) := by decide +kernel
theorem dX0_solve_59 : decode cX0_solve 59 = .ok (.if_icmp .ne 11, 3) := by decide +kernel
theorem dX0_solve_62 : decode cX0_solve 62 = .ok (.aload_n 0, 1) := by decide +kernel
theorem dX0_solve_63 : decode cX0_solve 63 = .ok (.iload_n 2, 1) := by decide +kernel
theorem dX0_solve_64 : decode cX0_solve 64 = .ok (.invokevirtual 70, 3) := by decide +kernel
theorem dX0_solve_67 : decode cX0_solve 67 = .ok (.goto 8, 3) := by decide +kernel
theorem dX0_solve_70 : decode cX0_solve 70 = .ok (.aload_n 0, 1) := by decide +kernel
theorem dX0_solve_71 : decode cX0_solve 71 = .ok (.iload_n 2, 1) := by decide +kernel
theorem dX0_solve_72 : decode cX0_solve 72 = .ok (.invokevirtual 73, 3) := by decide +kernel
theorem dX0_solve_75 : decode cX0_solve 75 = .ok (.iinc 1 1, 3) := by decide +kernel
theorem dX0_solve_78 : decode cX0_solve 78 = .ok (.goto (-64), 3) := by decide +kernel
theorem dX0_solve_81 : decode cX0_solve 81 = .ok (.return_, 1) := by decide +kernel
theorem dX0_push_0 : decode cX0_push 0 = .ok (.aload_n 0, 1) := by decide +kernel
theorem dX0_push_1 : decode cX0_push 1 = .ok (.getfield 19, 3) := by decide +kernel
theorem dX0_push_4 : decode cX0_push 4 = .ok (.aload_n 0, 1) := by decide +kernel
theorem dX0_push_5 : decode cX0_push 5 = .ok (.getfield 49, 3) := by decide +kernel
theorem dX0_push_8 : decode cX0_push 8 = .ok (.iload_n 1, 1) := by decide +kernel
theorem dX0_push_9 : decode cX0_push 9 = .ok (.iastore, 1) := by decide +kernel
theorem dX0_push_10 : decode cX0_push 10 = .ok (.aload_n 0, 1) := by decide +kernel
theorem dX0_push_11 : decode cX0_push 11 = .ok (.getfield 22, 3) := by decide +kernel
theorem dX0_push_14 : decode cX0_push 14 = .ok (.aload_n 0, 1) := by decide +kernel
theorem dX0_push_15 : decode cX0_push 15 = .ok (.getfield 49, 3) := by decide +kernel
theorem dX0_push_18 : decode cX0_push 18 = .ok (.iconst 0, 1) := by decide +kernel
theorem dX0_push_19 : decode cX0_push 19 = .ok (.iastore, 1) := by decide +kernel
theorem dX0_push_20 : decode cX0_push 20 = .ok (.aload_n 0, 1) := by decide +kernel
theorem dX0_push_21 : decode cX0_push 21 = .ok (.dup, 1) := by decide +kernel
theorem dX0_push_22 : decode cX0_push 22 = .ok (.getfield 49, 3) := by decide +kernel
theorem dX0_push_25 : decode cX0_push 25 = .ok (.iconst 1, 1) := by decide +kernel
theorem dX0_push_26 : decode cX0_push 26 = .ok (.iadd, 1) := by decide +kernel
theorem dX0_push_27 : decode cX0_push 27 = .ok (.putfield 49, 3) := by decide +kernel
theorem dX0_push_30 : decode cX0_push 30 = .ok (.return_, 1) := by decide +kernel
theorem dX0_begin_0 : decode cX0_begin 0 = .ok (.aload_n 0, 1) := by decide +kernel
theorem dX0_begin_1 : decode cX0_begin 1 = .ok (.getfield 19, 3) := by decide +kernel
theorem dX0_begin_4 : decode cX0_begin 4 = .ok (.iload_n 1, 1) := by decide +kernel
theorem dX0_begin_5 : decode cX0_begin 5 = .ok (.iaload, 1) := by decide +kernel
theorem dX0_begin_6 : decode cX0_begin 6 = .ok (.istore_n 2, 1) := by decide +kernel
theorem dX0_begin_7 : decode cX0_begin 7 = .ok (.iload_n 2, 1) := by decide +kernel
theorem dX0_begin_8 : decode cX0_begin 8 = .ok (.ifCond .ne 28, 3) := by decide +kernel
theorem dX0_begin_11 : decode cX0_begin 11 = .ok (.aload_n 0, 1) := by decide +kernel
theorem dX0_begin_12 : decode cX0_begin 12 = .ok (.getfield 28, 3) := by decide +kernel
theorem dX0_begin_15 : decode cX0_begin 15 = .ok (.iconst 0, 1) := by decide +kernel
theorem dX0_begin_16 : decode cX0_begin 16 = .ok (.iconst 0, 1) := by decide +kernel
theorem dX0_begin_17 : decode cX0_begin 17 = .ok (.iastore, 1) := by decide +kernel
theorem dX0_begin_18 : decode cX0_begin 18 = .ok (.aload_n 0, 1) := by decide +kernel
theorem dX0_begin_19 : decode cX0_begin 19 = .ok (.getfield 28, 3) := by decide +kernel
theorem dX0_begin_22 : decode cX0_begin 22 = .ok (.iconst 1, 1) := by decide +kernel
theorem dX0_begin_23 : decode cX0_begin 23 = .ok (.iconst 0, 1) := by decide +kernel
theorem dX0_begin_24 : decode cX0_begin 24 = .ok (.iastore, 1) := by decide +kernel
theorem dX0_begin_25 : decode cX0_begin 25 = .ok (.aload_n 0, 1) := by decide +kernel
theorem dX0_begin_26 : decode cX0_begin 26 = .ok (.dup, 1) := by decide +kernel
theorem dX0_begin_27 : decode cX0_begin 27 = .ok (.getfield 49, 3) := by decide +kernel
theorem dX0_begin_30 : decode cX0_begin 30 = .ok (.iconst 1, 1) := by decide +kernel
theorem dX0_begin_31 : decode cX0_begin 31 = .ok (.isub, 1) := by decide +kernel
theorem dX0_begin_32 : decode cX0_begin 32 = .ok (.putfield 49, 3) := by decide +kernel
theorem dX0_begin_35 : decode cX0_begin 35 = .ok (.return_, 1) := by decide +kernel
theorem dX0_begin_36 : decode cX0_begin 36 = .ok (.aload_n 0, 1) := by decide +kernel
theorem dX0_begin_37 : decode cX0_begin 37 = .ok (.iload_n 2, 1) := by decide +kernel
theorem dX0_begin_38 : decode cX0_begin 38 = .ok (.invokevirtual 52, 3) := by decide +kernel
theorem dX0_begin_41 : decode cX0_begin 41 = .ok (.istore_n 3, 1) := by decide +kernel
theorem dX0_begin_42 : decode cX0_begin 42 = .ok (.aload_n 0, 1) := by decide +kernel
theorem dX0_begin_43 : decode cX0_begin 43 = .ok (.iload_n 2, 1) := by decide +kernel
theorem dX0_begin_44 : decode cX0_begin 44 = .ok (.iload_n 3, 1) := by decide +kernel
theorem dX0_begin_45 : decode cX0_begin 45 = .ok (.invokevirtual 55, 3) := by decide +kernel
theorem dX0_begin_48 : decode cX0_begin 48 = .ok (.istore 4, 2) := by decide +kernel
theorem dX0_begin_50 : decode cX0_begin 50 = .ok (.aload_n 0, 1) := by decide +kernel
theorem dX0_begin_51 : decode cX0_begin 51 = .ok (.iload_n 3, 1) := by decide +kernel
theorem dX0_begin_52 : decode cX0_begin 52 = .ok (.iconst 1, 1) := by decide +kernel
theorem dX0_begin_53 : decode cX0_begin 53 = .ok (.iand, 1) := by decide +kernel
theorem dX0_begin_54 : decode cX0_begin 54 = .ok (.iload 4, 2) := by decide +kernel
theorem dX0_begin_56 : decode cX0_begin 56 = .ok (.iload_n 2, 1) := by decide +kernel
theorem dX0_begin_57 : decode cX0_begin 57 = .ok (.invokevirtual 59, 3) := by decide +kernel
theorem dX0_begin_60 : decode cX0_begin 60 = .ok (.istore 5, 2) := by decide +kernel
theorem dX0_begin_62 : decode cX0_begin 62 = .ok (.aload_n 0, 1) := by decide +kernel
theorem dX0_begin_63 : decode cX0_begin 63 = .ok (.getfield 22, 3) := by decide +kernel
theorem dX0_begin_66 : decode cX0_begin 66 = .ok (.iload_n 1, 1) := by decide +kernel
theorem dX0_begin_67 : decode cX0_begin 67 = .ok (.iconst 1, 1) := by decide +kernel
theorem dX0_begin_68 : decode cX0_begin 68 = .ok (.iastore, 1) := by decide +kernel
theorem dX0_begin_69 : decode cX0_begin 69 = .ok (.aload_n 0, 1) := by decide +kernel
theorem dX0_begin_70 : decode cX0_begin 70 = .ok (.iload_n 2, 1) := by decide +kernel
theorem dX0_begin_71 : decode cX0_begin 71 = .ok (.iload 5, 2) := by decide +kernel
theorem dX0_begin_73 : decode cX0_begin 73 = .ok (.iconst (-1), 1) := by decide +kernel
theorem dX0_begin_74 : decode cX0_begin 74 = .ok (.ixor, 1) := by decide +kernel
theorem dX0_begin_75 : decode cX0_begin 75 = .ok (.iand, 1) := by decide +kernel
theorem dX0_begin_76 : decode cX0_begin 76 = .ok (.invokevirtual 63, 3) := by decide +kernel
theorem dX0_begin_79 : decode cX0_begin 79 = .ok (.return_, 1) := by decide +kernel
end
section
/-! decode rows of X0 -/
set_option maxRecDepth 100000
theorem dX0_greatest_0 : decode cX0_greatest 0 = .ok (.iconst 0, 1) := by decide +kernel
theorem dX0_greatest_1 : decode cX0_greatest 1 = .ok (.istore_n 2, 1) := by decide +kernel
theorem dX0_greatest_2 : decode cX0_greatest 2 = .ok (.iconst 0, 1) := by decide +kernel
theorem dX0_greatest_3 : decode cX0_greatest 3 = .ok (.istore_n 3, 1) := by decide +kernel
theorem dX0_greatest_4 : decode cX0_greatest 4 = .ok (.iload_n 3, 1) := by decide +kernel
theorem dX0_greatest_5 : decode cX0_greatest 5 = .ok (.bipush 8, 2) := by decide +kernel
theorem dX0_greatest_7 : decode cX0_greatest 7 = .ok (.if_icmp .ge 35, 3) := by decide +kernel
theorem dX0_greatest_10 : decode cX0_greatest 10 = .ok (.iload_n 1, 1) := by decide +kernel
theorem dX0_greatest_11 : decode cX0_greatest 11 = .ok (.iload_n 3, 1) := by decide +kernel
theorem dX0_greatest_12 : decode cX0_greatest 12 = .ok (.ishr, 1) := by decide +kernel
theorem dX0_greatest_13 : decode cX0_greatest 13 = .ok (.iconst 1, 1) := by decide +kernel
theorem dX0_greatest_14 : decode cX0_greatest 14 = .ok (.iand, 1) := by decide +kernel
theorem dX0_greatest_15 : decode cX0_greatest 15 = .ok (.iconst 1, 1) := by decide +kernel
theorem dX0_greatest_16 : decode cX0_greatest 16 = .ok (.if_icmp .ne 20, 3) := by decide +kernel
theorem dX0_greatest_19 : decode cX0_greatest 19 = .ok (.aload_n 0, 1) := by decide +kernel
theorem dX0_greatest_20 : decode cX0_greatest 20 = .ok (.getfield 7, 3) := by decide +kernel
theorem dX0_greatest_23 : decode cX0_greatest 23 = .ok (.iload_n 3, 1) := by decide +kernel
theorem dX0_greatest_24 : decode cX0_greatest 24 = .ok (.iaload, 1) := by decide +kernel
theorem dX0_greatest_25 : decode cX0_greatest 25 = .ok (.iload_n 2, 1) := by decide +kernel
theorem dX0_greatest_26 : decode cX0_greatest 26 = .ok (.if_icmp .le 10, 3) := by decide +kernel
theorem dX0_greatest_29 : decode cX0_greatest 29 = .ok (.aload_n 0, 1) := by decide +kernel
theorem dX0_greatest_30 : decode cX0_greatest 30 = .ok (.getfield 7, 3) := by decide +kernel
theorem dX0_greatest_33 : decode cX0_greatest 33 = .ok (.iload_n 3, 1) := by decide +kernel
theorem dX0_greatest_34 : decode cX0_greatest 34 = .ok (.iaload, 1) := by decide +kernel
theorem dX0_greatest_35 : decode cX0_greatest 35 = .ok (.istore_n 2, 1) := by decide +kernel
theorem dX0_greatest_36 : decode cX0_greatest 36 = .ok (.iinc 3 1, 3) := by decide +kernel
theorem dX0_greatest_39 : decode cX0_greatest 39 = .ok (.goto (-35), 3) := by decide +kernel
theorem dX0_greatest_42 : decode cX0_greatest 42 = .ok (.iload_n 2, 1) := by decide +kernel
theorem dX0_greatest_43 : decode cX0_greatest 43 = .ok (.ireturn, 1) := by decide +kernel
theorem dX0_withColour_0 : decode cX0_withColour 0 = .ok (.iconst 0, 1) := by decide +kernel
theorem dX0_withColour_1 : decode cX0_withColour 1 = .ok (.istore_n 3, 1) := by decide +kernel
theorem dX0_withColour_2 : decode cX0_withColour 2 = .ok (.iconst 0, 1) := by decide +kernel
theorem dX0_withColour_3 : decode cX0_withColour 3 = .ok (.istore 4, 2) := by decide +kernel
theorem dX0_withColour_5 : decode cX0_withColour 5 = .ok (.iload 4, 2) := by decide +kernel
theorem dX0_withColour_7 : decode cX0_withColour 7 = .ok (.bipush 8, 2) := by decide +kernel
theorem dX0_withColour_9 : decode cX0_withColour 9 = .ok (.if_icmp .ge 37, 3) := by decide +kernel
theorem dX0_withColour_12 : decode cX0_withColour 12 = .ok (.iload_n 1, 1) := by decide +kernel
theorem dX0_withColour_13 : decode cX0_withColour 13 = .ok (.iload 4, 2) := by decide +kernel
theorem dX0_withColour_15 : decode cX0_withColour 15 = .ok (.ishr, 1) := by decide +kernel
theorem dX0_withColour_16 : decode cX0_withColour 16 = .ok (.iconst 1, 1) := by decide +kernel
theorem dX0_withColour_17 : decode cX0_withColour 17 = .ok (.iand, 1) := by decide +kernel
theorem dX0_withColour_18 : decode cX0_withColour 18 = .ok (.iconst 1, 1) := by decide +kernel
theorem dX0_withColour_19 : decode cX0_withColour 19 = .ok (.if_icmp .ne 21, 3) := by decide +kernel
theorem dX0_withColour_22 : decode cX0_withColour 22 = .ok (.aload_n 0, 1) := by decide +kernel
theorem dX0_withColour_23 : decode cX0_withColour 23 = .ok (.getfield 7, 3) := by decide +kernel
theorem dX0_withColour_26 : decode cX0_withColour 26 = .ok (.iload 4, 2) := by decide +kernel
theorem dX0_withColour_28 : decode cX0_withColour 28 = .ok (.iaload, 1) := by decide +kernel
theorem dX0_withColour_29 : decode cX0_withColour 29 = .ok (.iload_n 2, 1) := by decide +kernel
theorem dX0_withColour_30 : decode cX0_withColour 30 = .ok (.if_icmp .ne 10, 3) := by decide +kernel
theorem dX0_withColour_33 : decode cX0_withColour 33 = .ok (.iload_n 3, 1) := by decide +kernel
theorem dX0_withColour_34 : decode cX0_withColour 34 = .ok (.iconst 1, 1) := by decide +kernel
theorem dX0_withColour_35 : decode cX0_withColour 35 = .ok (.iload 4, 2) := by decide +kernel
theorem dX0_withColour_37 : decode cX0_withColour 37 = .ok (.ishl, 1) := by decide +kernel
theorem dX0_withColour_38 : decode cX0_withColour 38 = .ok (.ior, 1) := by decide +kernel
theorem dX0_withColour_39 : decode cX0_withColour 39 = .ok (.istore_n 3, 1) := by decide +kernel
theorem dX0_withColour_40 : decode cX0_withColour 40 = .ok (.iinc 4 1, 3) := by decide +kernel
theorem dX0_withColour_43 : decode cX0_withColour 43 = .ok (.goto (-38), 3) := by decide +kernel
theorem dX0_withColour_46 : decode cX0_withColour 46 = .ok (.iload_n 3, 1) := by decide +kernel
theorem dX0_withColour_47 : decode cX0_withColour 47 = .ok (.ireturn, 1) := by decide +kernel
theorem dX0_forced_0 : decode cX0_forced 0 = .ok (.iload_n 2, 1) := by decide +kernel
theorem dX0_forced_1 : decode cX0_forced 1 = .ok (.istore 4, 2) := by decide +kernel
theorem dX0_forced_3 : decode cX0_forced 3 = .ok (.iconst 0, 1) := by decide +kernel
theorem dX0_forced_4 : decode cX0_forced 4 = .ok (.istore 5, 2) := by decide +kernel
theorem dX0_forced_6 : decode cX0_forced 6 = .ok (.iconst 0, 1) := by decide +kernel
theorem dX0_forced_7 : decode cX0_forced 7 = .ok (.istore 6, 2) := by decide +kernel
theorem dX0_forced_9 : decode cX0_forced 9 = .ok (.iload 6, 2) := by decide +kernel
theorem dX0_forced_11 : decode cX0_forced 11 = .ok (.bipush 8, 2) := by decide +kernel
theorem dX0_forced_13 : decode cX0_forced 13 = .ok (.if_icmp .gt 127, 3) := by decide +kernel
theorem dX0_forced_16 : decode cX0_forced 16 = .ok (.iload 4, 2) := by decide +kernel
theorem dX0_forced_18 : decode cX0_forced 18 = .ok (.iload 5, 2) := by decide +kernel
theorem dX0_forced_20 : decode cX0_forced 20 = .ok (.if_icmp .eq 120, 3) := by decide +kernel
theorem dX0_forced_23 : decode cX0_forced 23 = .ok (.iload 4, 2) := by decide +kernel
theorem dX0_forced_25 : decode cX0_forced 25 = .ok (.istore 5, 2) := by decide +kernel
theorem dX0_forced_27 : decode cX0_forced 27 = .ok (.iconst 0, 1) := by decide +kernel
theorem dX0_forced_28 : decode cX0_forced 28 = .ok (.istore 7, 2) := by decide +kernel
theorem dX0_forced_30 : decode cX0_forced 30 = .ok (.iload 7, 2) := by decide +kernel
theorem dX0_forced_32 : decode cX0_forced 32 = .ok (.bipush 8, 2) := by decide +kernel
theorem dX0_forced_34 : decode cX0_forced 34 = .ok (.if_icmp .ge 100, 3) := by decide +kernel
theorem dX0_forced_37 : decode cX0_forced 37 = .ok (.iload_n 3, 1) := by decide +kernel
theorem dX0_forced_38 : decode cX0_forced 38 = .ok (.iload 7, 2) := by decide +kernel
theorem dX0_forced_40 : decode cX0_forced 40 = .ok (.ishr, 1) := by decide +kernel
theorem dX0_forced_41 : decode cX0_forced 41 = .ok (.iconst 1, 1) := by decide +kernel
theorem dX0_forced_42 : decode cX0_forced 42 = .ok (.iand, 1) := by decide +kernel
theorem dX0_forced_43 : decode cX0_forced 43 = .ok (.iconst 1, 1) := by decide +kernel
theorem dX0_forced_44 : decode cX0_forced 44 = .ok (.if_icmp .ne 84, 3) := by decide +kernel
theorem dX0_forced_47 : decode cX0_forced 47 = .ok (.aload_n 0, 1) := by decide +kernel
theorem dX0_forced_48 : decode cX0_forced 48 = .ok (.iload 7, 2) := by decide +kernel
theorem dX0_forced_50 : decode cX0_forced 50 = .ok (.invokevirtual 46, 3) := by decide +kernel
theorem dX0_forced_53 : decode cX0_forced 53 = .ok (.iload_n 3, 1) := by decide +kernel
theorem dX0_forced_54 : decode cX0_forced 54 = .ok (.iand, 1) := by decide +kernel
theorem dX0_forced_55 : decode cX0_forced 55 = .ok (.istore 8, 2) := by decide +kernel
theorem dX0_forced_57 : decode cX0_forced 57 = .ok (.iload 8, 2) := by decide +kernel
theorem dX0_forced_59 : decode cX0_forced 59 = .ok (.iload 5, 2) := by decide +kernel
theorem dX0_forced_61 : decode cX0_forced 61 = .ok (.iand, 1) := by decide +kernel
theorem dX0_forced_62 : decode cX0_forced 62 = .ok (.ifCond .eq 7, 3) := by decide +kernel
theorem dX0_forced_65 : decode cX0_forced 65 = .ok (.iconst 1, 1) := by decide +kernel
theorem dX0_forced_66 : decode cX0_forced 66 = .ok (.goto 4, 3) := by decide +kernel
theorem dX0_forced_69 : decode cX0_forced 69 = .ok (.iconst 0, 1) := by decide +kernel
theorem dX0_forced_70 : decode cX0_forced 70 = .ok (.istore 9, 2) := by decide +kernel
theorem dX0_forced_72 : decode cX0_forced 72 = .ok (.iload 8, 2) := by decide +kernel
theorem dX0_forced_74 : decode cX0_forced 74 = .ok (.iload 5, 2) := by decide +kernel
theorem dX0_forced_76 : decode cX0_forced 76 = .ok (.iconst (-1), 1) := by decide +kernel
theorem dX0_forced_77 : decode cX0_forced 77 = .ok (.ixor, 1) := by decide +kernel
theorem dX0_forced_78 : decode cX0_forced 78 = .ok (.iand, 1) := by decide +kernel
theorem dX0_forced_79 : decode cX0_forced 79 = .ok (.ifCond .ne 7, 3) := by decide +kernel
theorem dX0_forced_82 : decode cX0_forced 82 = .ok (.iconst 1, 1) := by decide +kernel
theorem dX0_forced_83 : decode cX0_forced 83 = .ok (.goto 4, 3) := by decide +kernel
theorem dX0_forced_86 : decode cX0_forced 86 = .ok (.iconst 0, 1) := by decide +kernel
theorem dX0_forced_87 : decode cX0_forced 87 = .ok (.istore 10, 2) := by decide +kernel
theorem dX0_forced_89 : decode cX0_forced 89 = .ok (.aload_n 0, 1) := by decide +kernel
theorem dX0_forced_90 : decode cX0_forced 90 = .ok (.iload 7, 2) := by decide +kernel
theorem dX0_forced_92 : decode cX0_forced 92 = .ok (.invokevirtual 42, 3) := by decide +kernel
theorem dX0_forced_95 : decode cX0_forced 95 = .ok (.iload_n 1, 1) := by decide +kernel
theorem dX0_forced_96 : decode cX0_forced 96 = .ok (.if_icmp .ne 8, 3) := by decide +kernel
theorem dX0_forced_99 : decode cX0_forced 99 = .ok (.iload 9, 2) := by decide +kernel
theorem dX0_forced_101 : decode cX0_forced 101 = .ok (.ifCond .ne 18, 3) := by decide +kernel
theorem dX0_forced_104 : decode cX0_forced 104 = .ok (.aload_n 0, 1) := by decide +kernel
theorem dX0_forced_105 : decode cX0_forced 105 = .ok (.iload 7, 2) := by decide +kernel
theorem dX0_forced_107 : decode cX0_forced 107 = .ok (.invokevirtual 42, 3) := by decide +kernel
theorem dX0_forced_110 : decode cX0_forced 110 = .ok (.iload_n 1, 1) := by decide +kernel
theorem dX0_forced_111 : decode cX0_forced 111 = .ok (.if_icmp .eq 17, 3) := by decide +kernel
theorem dX0_forced_114 : decode cX0_forced 114 = .ok (.iload 10, 2) := by decide +kernel
theorem dX0_forced_116 : decode cX0_forced 116 = .ok (.ifCond .eq 12, 3) := by decide +kernel
theorem dX0_forced_119 : decode cX0_forced 119 = .ok (.iload 4, 2) := by decide +kernel
theorem dX0_forced_121 : decode cX0_forced 121 = .ok (.iconst 1, 1) := by decide +kernel
theorem dX0_forced_122 : decode cX0_forced 122 = .ok (.iload 7, 2) := by decide +kernel
theorem dX0_forced_124 : decode cX0_forced 124 = .ok (.ishl, 1) := by decide +kernel
theorem dX0_forced_125 : decode cX0_forced 125 = .ok (.ior, 1) := by decide +kernel
theorem dX0_forced_126 : decode cX0_forced 126 = .ok (.istore 4, 2) := by decide +kernel
theorem dX0_forced_128 : decode cX0_forced 128 = .ok (.iinc 7 1, 3) := by decide +kernel
theorem dX0_forced_131 : decode cX0_forced 131 = .ok (.goto (-101), 3) := by decide +kernel
theorem dX0_forced_134 : decode cX0_forced 134 = .ok (.iinc 6 1, 3) := by decide +kernel
theorem dX0_forced_137 : decode cX0_forced 137 = .ok (.goto (-128), 3) := by decide +kernel
theorem dX0_forced_140 : decode cX0_forced 140 = .ok (.iload 4, 2) := by decide +kernel
theorem dX0_forced_142 : decode cX0_forced 142 = .ok (.ireturn, 1) := by decide +kernel
theorem dX0_moves_0 : decode cX0_moves 0 = .ok (.iconst 1, 1) := by decide +kernel
theorem dX0_moves_1 : decode cX0_moves 1 = .ok (.aload_n 0, 1) := by decide +kernel
theorem dX0_moves_2 : decode cX0_moves 2 = .ok (.getfield 13, 3) := by decide +kernel
theorem dX0_moves_5 : decode cX0_moves 5 = .ok (.iload_n 1, 1) := by decide +kernel
theorem dX0_moves_6 : decode cX0_moves 6 = .ok (.iaload, 1) := by decide +kernel
theorem dX0_moves_7 : decode cX0_moves 7 = .ok (.ishl, 1) := by decide +kernel
theorem dX0_moves_8 : decode cX0_moves 8 = .ok (.iconst 1, 1) := by decide +kernel
theorem dX0_moves_9 : decode cX0_moves 9 = .ok (.aload_n 0, 1) := by decide +kernel
theorem dX0_moves_10 : decode cX0_moves 10 = .ok (.getfield 16, 3) := by decide +kernel
theorem dX0_moves_13 : decode cX0_moves 13 = .ok (.iload_n 1, 1) := by decide +kernel
theorem dX0_moves_14 : decode cX0_moves 14 = .ok (.iaload, 1) := by decide +kernel
theorem dX0_moves_15 : decode cX0_moves 15 = .ok (.ishl, 1) := by decide +kernel
theorem dX0_moves_16 : decode cX0_moves 16 = .ok (.ior, 1) := by decide +kernel
theorem dX0_moves_17 : decode cX0_moves 17 = .ok (.ireturn, 1) := by decide +kernel
theorem dX0_goOn_0 : decode cX0_goOn 0 = .ok (.aload_n 0, 1) := by decide +kernel
theorem dX0_goOn_1 : decode cX0_goOn 1 = .ok (.getfield 19, 3) := by decide +kernel
theorem dX0_goOn_4 : decode cX0_goOn 4 = .ok (.iload_n 1, 1) := by decide +kernel
theorem dX0_goOn_5 : decode cX0_goOn 5 = .ok (.iaload, 1) := by decide +kernel
theorem dX0_goOn_6 : decode cX0_goOn 6 = .ok (.istore_n 2, 1) := by decide +kernel
theorem dX0_goOn_7 : decode cX0_goOn 7 = .ok (.aload_n 0, 1) := by decide +kernel
theorem dX0_goOn_8 : decode cX0_goOn 8 = .ok (.iload_n 2, 1) := by decide +kernel
theorem dX0_goOn_9 : decode cX0_goOn 9 = .ok (.invokevirtual 52, 3) := by decide +kernel
theorem dX0_goOn_12 : decode cX0_goOn 12 = .ok (.iconst 1, 1) := by decide +kernel
theorem dX0_goOn_13 : decode cX0_goOn 13 = .ok (.iand, 1) := by decide +kernel
theorem dX0_goOn_14 : decode cX0_goOn 14 = .ok (.istore_n 3, 1) := by decide +kernel
theorem dX0_goOn_15 : decode cX0_goOn 15 = .ok (.aload_n 0, 1) := by decide +kernel
theorem dX0_goOn_16 : decode cX0_goOn 16 = .ok (.getfield 28, 3) := by decide +kernel
theorem dX0_goOn_19 : decode cX0_goOn 19 = .ok (.iconst 1, 1) := by decide +kernel
theorem dX0_goOn_20 : decode cX0_goOn 20 = .ok (.iload_n 3, 1) := by decide +kernel
theorem dX0_goOn_21 : decode cX0_goOn 21 = .ok (.isub, 1) := by decide +kernel
theorem dX0_goOn_22 : decode cX0_goOn 22 = .ok (.iaload, 1) := by decide +kernel
theorem dX0_goOn_23 : decode cX0_goOn 23 = .ok (.istore 4, 2) := by decide +kernel
theorem dX0_goOn_25 : decode cX0_goOn 25 = .ok (.iload 4, 2) := by decide +kernel
theorem dX0_goOn_27 : decode cX0_goOn 27 = .ok (.ifCond .ne 21, 3) := by decide +kernel
theorem dX0_goOn_30 : decode cX0_goOn 30 = .ok (.aload_n 0, 1) := by decide +kernel
theorem dX0_goOn_31 : decode cX0_goOn 31 = .ok (.getfield 28, 3) := by decide +kernel
theorem dX0_goOn_34 : decode cX0_goOn 34 = .ok (.iload_n 3, 1) := by decide +kernel
theorem dX0_goOn_35 : decode cX0_goOn 35 = .ok (.iload_n 2, 1) := by decide +kernel
theorem dX0_goOn_36 : decode cX0_goOn 36 = .ok (.iastore, 1) := by decide +kernel
theorem dX0_goOn_37 : decode cX0_goOn 37 = .ok (.aload_n 0, 1) := by decide +kernel
theorem dX0_goOn_38 : decode cX0_goOn 38 = .ok (.dup, 1) := by decide +kernel
theorem dX0_goOn_39 : decode cX0_goOn 39 = .ok (.getfield 49, 3) := by decide +kernel
theorem dX0_goOn_42 : decode cX0_goOn 42 = .ok (.iconst 1, 1) := by decide +kernel
theorem dX0_goOn_43 : decode cX0_goOn 43 = .ok (.isub, 1) := by decide +kernel
theorem dX0_goOn_44 : decode cX0_goOn 44 = .ok (.putfield 49, 3) := by decide +kernel
theorem dX0_goOn_47 : decode cX0_goOn 47 = .ok (.return_, 1) := by decide +kernel
theorem dX0_goOn_48 : decode cX0_goOn 48 = .ok (.aload_n 0, 1) := by decide +kernel
theorem dX0_goOn_49 : decode cX0_goOn 49 = .ok (.iconst 1, 1) := by decide +kernel
theorem dX0_goOn_50 : decode cX0_goOn 50 = .ok (.iload_n 3, 1) := by decide +kernel
theorem dX0_goOn_51 : decode cX0_goOn 51 = .ok (.isub, 1) := by decide +kernel
theorem dX0_goOn_52 : decode cX0_goOn 52 = .ok (.iload 4, 2) := by decide +kernel
theorem dX0_goOn_54 : decode cX0_goOn 54 = .ok (.iload_n 2, 1) := by decide +kernel
theorem dX0_goOn_55 : decode cX0_goOn 55 = .ok (.invokevirtual 59, 3) := by decide +kernel
theorem dX0_goOn_58 : decode cX0_goOn 58 = .ok (.istore 5, 2) := by decide +kernel
theorem dX0_goOn_60 : decode cX0_goOn 60 = .ok (.aload_n 0, 1) := by decide +kernel
theorem dX0_goOn_61 : decode cX0_goOn 61 = .ok (.getfield 25, 3) := by decide +kernel
theorem dX0_goOn_64 : decode cX0_goOn 64 = .ok (.iload_n 1, 1) := by decide +kernel
theorem dX0_goOn_65 : decode cX0_goOn 65 = .ok (.iload 5, 2) := by decide +kernel
theorem dX0_goOn_67 : decode cX0_goOn 67 = .ok (.iastore, 1) := by decide +kernel
theorem dX0_goOn_68 : decode cX0_goOn 68 = .ok (.aload_n 0, 1) := by decide +kernel
theorem dX0_goOn_69 : decode cX0_goOn 69 = .ok (.getfield 22, 3) := by decide +kernel
theorem dX0_goOn_72 : decode cX0_goOn 72 = .ok (.iload_n 1, 1) := by decide +kernel
theorem dX0_goOn_73 : decode cX0_goOn 73 = .ok (.iconst 2, 1) := by decide +kernel
theorem dX0_goOn_74 : decode cX0_goOn 74 = .ok (.iastore, 1) := by decide +kernel
theorem dX0_goOn_75 : decode cX0_goOn 75 = .ok (.aload_n 0, 1) := by decide +kernel
theorem dX0_goOn_76 : decode cX0_goOn 76 = .ok (.iload_n 2, 1) := by decide +kernel
theorem dX0_goOn_77 : decode cX0_goOn 77 = .ok (.iload 5, 2) := by decide +kernel
theorem dX0_goOn_79 : decode cX0_goOn 79 = .ok (.iconst (-1), 1) := by decide +kernel
theorem dX0_goOn_80 : decode cX0_goOn 80 = .ok (.ixor, 1) := by decide +kernel
theorem dX0_goOn_81 : decode cX0_goOn 81 = .ok (.iand, 1) := by decide +kernel
theorem dX0_goOn_82 : decode cX0_goOn 82 = .ok (.invokevirtual 63, 3) := by decide +kernel
theorem dX0_goOn_85 : decode cX0_goOn 85 = .ok (.return_, 1) := by decide +kernel
theorem dX0_finish_0 : decode cX0_finish 0 = .ok (.aload_n 0, 1) := by decide +kernel
theorem dX0_finish_1 : decode cX0_finish 1 = .ok (.aload_n 0, 1) := by decide +kernel
theorem dX0_finish_2 : decode cX0_finish 2 = .ok (.getfield 19, 3) := by decide +kernel
theorem dX0_finish_5 : decode cX0_finish 5 = .ok (.iload_n 1, 1) := by decide +kernel
theorem dX0_finish_6 : decode cX0_finish 6 = .ok (.iaload, 1) := by decide +kernel
theorem dX0_finish_7 : decode cX0_finish 7 = .ok (.invokevirtual 52, 3) := by decide +kernel
theorem dX0_finish_10 : decode cX0_finish 10 = .ok (.iconst 1, 1) := by decide +kernel
theorem dX0_finish_11 : decode cX0_finish 11 = .ok (.iand, 1) := by decide +kernel
theorem dX0_finish_12 : decode cX0_finish 12 = .ok (.istore_n 2, 1) := by decide +kernel
theorem dX0_finish_13 : decode cX0_finish 13 = .ok (.aload_n 0, 1) := by decide +kernel
theorem dX0_finish_14 : decode cX0_finish 14 = .ok (.getfield 28, 3) := by decide +kernel
theorem dX0_finish_17 : decode cX0_finish 17 = .ok (.iconst 1, 1) := by decide +kernel
theorem dX0_finish_18 : decode cX0_finish 18 = .ok (.iload_n 2, 1) := by decide +kernel
theorem dX0_finish_19 : decode cX0_finish 19 = .ok (.isub, 1) := by decide +kernel
theorem dX0_finish_20 : decode cX0_finish 20 = .ok (.dup2, 1) := by decide +kernel
theorem dX0_finish_21 : decode cX0_finish 21 = .ok (.iaload, 1) := by decide +kernel
theorem dX0_finish_22 : decode cX0_finish 22 = .ok (.aload_n 0, 1) := by decide +kernel
theorem dX0_finish_23 : decode cX0_finish 23 = .ok (.getfield 25, 3) := by decide +kernel
theorem dX0_finish_26 : decode cX0_finish 26 = .ok (.iload_n 1, 1) := by decide +kernel
theorem dX0_finish_27 : decode cX0_finish 27 = .ok (.iaload, 1) := by decide +kernel
theorem dX0_finish_28 : decode cX0_finish 28 = .ok (.ior, 1) := by decide +kernel
theorem dX0_finish_29 : decode cX0_finish 29 = .ok (.iastore, 1) := by decide +kernel
theorem dX0_finish_30 : decode cX0_finish 30 = .ok (.aload_n 0, 1) := by decide +kernel
theorem dX0_finish_31 : decode cX0_finish 31 = .ok (.dup, 1) := by decide +kernel
theorem dX0_finish_32 : decode cX0_finish 32 = .ok (.getfield 49, 3) := by decide +kernel
theorem dX0_finish_35 : decode cX0_finish 35 = .ok (.iconst 1, 1) := by decide +kernel
theorem dX0_finish_36 : decode cX0_finish 36 = .ok (.isub, 1) := by decide +kernel
theorem dX0_finish_37 : decode cX0_finish 37 = .ok (.putfield 49, 3) := by decide +kernel
theorem dX0_finish_40 : decode cX0_finish 40 = .ok (.return_, 1) := by decide +kernel
theorem dX0_region_0 : decode cX0_region 0 = .ok (.aload_n 0, 1) := by decide +kernel
theorem dX0_region_1 : decode cX0_region 1 = .ok (.invokevirtual 89, 3) := by decide +kernel
theorem dX0_region_4 : decode cX0_region 4 = .ok (.aload_n 0, 1) := by decide +kernel
theorem dX0_region_5 : decode cX0_region 5 = .ok (.getfield 28, 3) := by decide +kernel
theorem dX0_region_8 : decode cX0_region 8 = .ok (.iconst 0, 1) := by decide +kernel
theorem dX0_region_9 : decode cX0_region 9 = .ok (.iaload, 1) := by decide +kernel
theorem dX0_region_10 : decode cX0_region 10 = .ok (.ireturn, 1) := by decide +kernel
theorem dX0_good_0 : decode cX0_good 0 = .ok (.iload_n 1, 1) := by decide +kernel
theorem dX0_good_1 : decode cX0_good 1 = .ok (.ifCond .lt 8, 3) := by decide +kernel
theorem dX0_good_4 : decode cX0_good 4 = .ok (.iload_n 1, 1) := by decide +kernel
theorem dX0_good_5 : decode cX0_good 5 = .ok (.iconst 1, 1) := by decide +kernel
theorem dX0_good_6 : decode cX0_good 6 = .ok (.if_icmp .le 5, 3) := by decide +kernel
theorem dX0_good_9 : decode cX0_good 9 = .ok (.iconst 0, 1) := by decide +kernel
theorem dX0_good_10 : decode cX0_good 10 = .ok (.ireturn, 1) := by decide +kernel
theorem dX0_good_11 : decode cX0_good 11 = .ok (.aload_n 0, 1) := by decide +kernel
theorem dX0_good_12 : decode cX0_good 12 = .ok (.invokevirtual 89, 3) := by decide +kernel
theorem dX0_good_15 : decode cX0_good 15 = .ok (.aload_n 0, 1) := by decide +kernel
theorem dX0_good_16 : decode cX0_good 16 = .ok (.iload_n 1, 1) := by decide +kernel
theorem dX0_good_17 : decode cX0_good 17 = .ok (.iload_n 2, 1) := by decide +kernel
theorem dX0_good_18 : decode cX0_good 18 = .ok (.aload_n 0, 1) := by decide +kernel
theorem dX0_good_19 : decode cX0_good 19 = .ok (.getfield 28, 3) := by decide +kernel
theorem dX0_good_22 : decode cX0_good 22 = .ok (.iload_n 1, 1) := by decide +kernel
theorem dX0_good_23 : decode cX0_good 23 = .ok (.iaload, 1) := by decide +kernel
theorem dX0_good_24 : decode cX0_good 24 = .ok (.invokevirtual 92, 3) := by decide +kernel
theorem dX0_good_27 : decode cX0_good 27 = .ok (.ireturn, 1) := by decide +kernel
theorem dX0_isGood_0 : decode cX0_isGood 0 = .ok (.aload_n 0, 1) := by decide +kernel
theorem dX0_isGood_1 : decode cX0_isGood 1 = .ok (.iload_n 1, 1) := by decide +kernel
theorem dX0_isGood_2 : decode cX0_isGood 2 = .ok (.iload_n 2, 1) := by decide +kernel
theorem dX0_isGood_3 : decode cX0_isGood 3 = .ok (.invokevirtual 86, 3) := by decide +kernel
theorem dX0_isGood_6 : decode cX0_isGood 6 = .ok (.istore 4, 2) := by decide +kernel
theorem dX0_isGood_8 : decode cX0_isGood 8 = .ok (.aload_n 0, 1) := by decide +kernel
theorem dX0_isGood_9 : decode cX0_isGood 9 = .ok (.iload_n 1, 1) := by decide +kernel
theorem dX0_isGood_10 : decode cX0_isGood 10 = .ok (.iload_n 2, 1) := by decide +kernel
theorem dX0_isGood_11 : decode cX0_isGood 11 = .ok (.iconst 5, 1) := by decide +kernel
theorem dX0_isGood_12 : decode cX0_isGood 12 = .ok (.invokevirtual 82, 3) := by decide +kernel
theorem dX0_isGood_15 : decode cX0_isGood 15 = .ok (.iconst 0, 1) := by decide +kernel
theorem dX0_isGood_16 : decode cX0_isGood 16 = .ok (.istore 5, 2) := by decide +kernel
theorem dX0_isGood_18 : decode cX0_isGood 18 = .ok (.iload 5, 2) := by decide +kernel
theorem dX0_isGood_20 : decode cX0_isGood 20 = .ok (.bipush 8, 2) := by decide +kernel
theorem dX0_isGood_22 : decode cX0_isGood 22 = .ok (.if_icmp .ge 39, 3) := by decide +kernel
theorem dX0_isGood_25 : decode cX0_isGood 25 = .ok (.iload_n 3, 1) := by decide +kernel
theorem dX0_isGood_26 : decode cX0_isGood 26 = .ok (.iload 5, 2) := by decide +kernel
theorem dX0_isGood_28 : decode cX0_isGood 28 = .ok (.ishr, 1) := by decide +kernel
theorem dX0_isGood_29 : decode cX0_isGood 29 = .ok (.iconst 1, 1) := by decide +kernel
theorem dX0_isGood_30 : decode cX0_isGood 30 = .ok (.iand, 1) := by decide +kernel
theorem dX0_isGood_31 : decode cX0_isGood 31 = .ok (.iconst 1, 1) := by decide +kernel
theorem dX0_isGood_32 : decode cX0_isGood 32 = .ok (.if_icmp .ne 23, 3) := by decide +kernel
theorem dX0_isGood_35 : decode cX0_isGood 35 = .ok (.aload_n 0, 1) := by decide +kernel
theorem dX0_isGood_36 : decode cX0_isGood 36 = .ok (.getfield 31, 3) := by decide +kernel
theorem dX0_isGood_39 : decode cX0_isGood 39 = .ok (.iload 5, 2) := by decide +kernel
theorem dX0_isGood_41 : decode cX0_isGood 41 = .ok (.iaload, 1) := by decide +kernel
theorem dX0_isGood_42 : decode cX0_isGood 42 = .ok (.iconst 1, 1) := by decide +kernel
theorem dX0_isGood_43 : decode cX0_isGood 43 = .ok (.iload 5, 2) := by decide +kernel
theorem dX0_isGood_45 : decode cX0_isGood 45 = .ok (.ishl, 1) := by decide +kernel
theorem dX0_isGood_46 : decode cX0_isGood 46 = .ok (.ior, 1) := by decide +kernel
theorem dX0_isGood_47 : decode cX0_isGood 47 = .ok (.iload 4, 2) := by decide +kernel
theorem dX0_isGood_49 : decode cX0_isGood 49 = .ok (.iand, 1) := by decide +kernel
theorem dX0_isGood_50 : decode cX0_isGood 50 = .ok (.ifCond .eq 5, 3) := by decide +kernel
theorem dX0_isGood_53 : decode cX0_isGood 53 = .ok (.iconst 0, 1) := by decide +kernel
theorem dX0_isGood_54 : decode cX0_isGood 54 = .ok (.ireturn, 1) := by decide +kernel
theorem dX0_isGood_55 : decode cX0_isGood 55 = .ok (.iinc 5 1, 3) := by decide +kernel
theorem dX0_isGood_58 : decode cX0_isGood 58 = .ok (.goto (-40), 3) := by decide +kernel
theorem dX0_isGood_61 : decode cX0_isGood 61 = .ok (.iconst 1, 1) := by decide +kernel
theorem dX0_isGood_62 : decode cX0_isGood 62 = .ok (.ireturn, 1) := by decide +kernel
theorem dX0_badCircles_0 : decode cX0_badCircles 0 = .ok (.iconst 0, 1) := by decide +kernel
theorem dX0_badCircles_1 : decode cX0_badCircles 1 = .ok (.istore_n 3, 1) := by decide +kernel
theorem dX0_badCircles_2 : decode cX0_badCircles 2 = .ok (.iconst 1, 1) := by decide +kernel
theorem dX0_badCircles_3 : decode cX0_badCircles 3 = .ok (.iload_n 1, 1) := by decide +kernel
theorem dX0_badCircles_4 : decode cX0_badCircles 4 = .ok (.isub, 1) := by decide +kernel
theorem dX0_badCircles_5 : decode cX0_badCircles 5 = .ok (.istore 4, 2) := by decide +kernel
theorem dX0_badCircles_7 : decode cX0_badCircles 7 = .ok (.iload 4, 2) := by decide +kernel
theorem dX0_badCircles_9 : decode cX0_badCircles 9 = .ok (.iconst 5, 1) := by decide +kernel
theorem dX0_badCircles_10 : decode cX0_badCircles 10 = .ok (.if_icmp .gt 68, 3) := by decide +kernel
theorem dX0_badCircles_13 : decode cX0_badCircles 13 = .ok (.aload_n 0, 1) := by decide +kernel
theorem dX0_badCircles_14 : decode cX0_badCircles 14 = .ok (.iload_n 1, 1) := by decide +kernel
theorem dX0_badCircles_15 : decode cX0_badCircles 15 = .ok (.iload_n 2, 1) := by decide +kernel
theorem dX0_badCircles_16 : decode cX0_badCircles 16 = .ok (.iload 4, 2) := by decide +kernel
theorem dX0_badCircles_18 : decode cX0_badCircles 18 = .ok (.invokevirtual 82, 3) := by decide +kernel
theorem dX0_badCircles_21 : decode cX0_badCircles 21 = .ok (.iconst 0, 1) := by decide +kernel
theorem dX0_badCircles_22 : decode cX0_badCircles 22 = .ok (.istore 5, 2) := by decide +kernel
theorem dX0_badCircles_24 : decode cX0_badCircles 24 = .ok (.iload 5, 2) := by decide +kernel
theorem dX0_badCircles_26 : decode cX0_badCircles 26 = .ok (.bipush 8, 2) := by decide +kernel
theorem dX0_badCircles_28 : decode cX0_badCircles 28 = .ok (.if_icmp .ge 44, 3) := by decide +kernel
theorem dX0_badCircles_31 : decode cX0_badCircles 31 = .ok (.aload_n 0, 1) := by decide +kernel
theorem dX0_badCircles_32 : decode cX0_badCircles 32 = .ok (.getfield 7, 3) := by decide +kernel
theorem dX0_badCircles_35 : decode cX0_badCircles 35 = .ok (.iload 5, 2) := by decide +kernel
theorem dX0_badCircles_37 : decode cX0_badCircles 37 = .ok (.iaload, 1) := by decide +kernel
theorem dX0_badCircles_38 : decode cX0_badCircles 38 = .ok (.iload 4, 2) := by decide +kernel
theorem dX0_badCircles_40 : decode cX0_badCircles 40 = .ok (.if_icmp .ne 26, 3) := by decide +kernel
theorem dX0_badCircles_43 : decode cX0_badCircles 43 = .ok (.aload_n 0, 1) := by decide +kernel
theorem dX0_badCircles_44 : decode cX0_badCircles 44 = .ok (.getfield 31, 3) := by decide +kernel
theorem dX0_badCircles_47 : decode cX0_badCircles 47 = .ok (.iload 5, 2) := by decide +kernel
theorem dX0_badCircles_49 : decode cX0_badCircles 49 = .ok (.iaload, 1) := by decide +kernel
theorem dX0_badCircles_50 : decode cX0_badCircles 50 = .ok (.iload 5, 2) := by decide +kernel
theorem dX0_badCircles_52 : decode cX0_badCircles 52 = .ok (.ishr, 1) := by decide +kernel
theorem dX0_badCircles_53 : decode cX0_badCircles 53 = .ok (.iconst 1, 1) := by decide +kernel
theorem dX0_badCircles_54 : decode cX0_badCircles 54 = .ok (.iand, 1) := by decide +kernel
theorem dX0_badCircles_55 : decode cX0_badCircles 55 = .ok (.iconst 1, 1) := by decide +kernel
theorem dX0_badCircles_56 : decode cX0_badCircles 56 = .ok (.if_icmp .ne 10, 3) := by decide +kernel
theorem dX0_badCircles_59 : decode cX0_badCircles 59 = .ok (.iload_n 3, 1) := by decide +kernel
theorem dX0_badCircles_60 : decode cX0_badCircles 60 = .ok (.iconst 1, 1) := by decide +kernel
theorem dX0_badCircles_61 : decode cX0_badCircles 61 = .ok (.iload 5, 2) := by decide +kernel
theorem dX0_badCircles_63 : decode cX0_badCircles 63 = .ok (.ishl, 1) := by decide +kernel
theorem dX0_badCircles_64 : decode cX0_badCircles 64 = .ok (.ior, 1) := by decide +kernel
theorem dX0_badCircles_65 : decode cX0_badCircles 65 = .ok (.istore_n 3, 1) := by decide +kernel
theorem dX0_badCircles_66 : decode cX0_badCircles 66 = .ok (.iinc 5 1, 3) := by decide +kernel
theorem dX0_badCircles_69 : decode cX0_badCircles 69 = .ok (.goto (-45), 3) := by decide +kernel
theorem dX0_badCircles_72 : decode cX0_badCircles 72 = .ok (.iinc 4 2, 3) := by decide +kernel
theorem dX0_badCircles_75 : decode cX0_badCircles 75 = .ok (.goto (-68), 3) := by decide +kernel
theorem dX0_badCircles_78 : decode cX0_badCircles 78 = .ok (.iload_n 3, 1) := by decide +kernel
theorem dX0_badCircles_79 : decode cX0_badCircles 79 = .ok (.ireturn, 1) := by decide +kernel
end
section
/-! decode rows of X0 -/
set_option maxRecDepth 100000
theorem dX0_closeWays_0 : decode cX0_closeWays 0 = .ok (.iconst 0, 1) := by decide +kernel
theorem dX0_closeWays_1 : decode cX0_closeWays 1 = .ok (.istore 4, 2) := by decide +kernel
theorem dX0_closeWays_3 : decode cX0_closeWays 3 = .ok (.iload 4, 2) := by decide +kernel
theorem dX0_closeWays_5 : decode cX0_closeWays 5 = .ok (.bipush 8, 2) := by decide +kernel
theorem dX0_closeWays_7 : decode cX0_closeWays 7 = .ok (.if_icmp .ge 52, 3) := by decide +kernel
theorem dX0_closeWays_10 : decode cX0_closeWays 10 = .ok (.aload_n 0, 1) := by decide +kernel
theorem dX0_closeWays_11 : decode cX0_closeWays 11 = .ok (.getfield 31, 3) := by decide +kernel
theorem dX0_closeWays_14 : decode cX0_closeWays 14 = .ok (.iload 4, 2) := by decide +kernel
theorem dX0_closeWays_16 : decode cX0_closeWays 16 = .ok (.iconst 0, 1) := by decide +kernel
theorem dX0_closeWays_17 : decode cX0_closeWays 17 = .ok (.iastore, 1) := by decide +kernel
theorem dX0_closeWays_18 : decode cX0_closeWays 18 = .ok (.aload_n 0, 1) := by decide +kernel
theorem dX0_closeWays_19 : decode cX0_closeWays 19 = .ok (.iload 4, 2) := by decide +kernel
theorem dX0_closeWays_21 : decode cX0_closeWays 21 = .ok (.iload_n 1, 1) := by decide +kernel
theorem dX0_closeWays_22 : decode cX0_closeWays 22 = .ok (.iload_n 2, 1) := by decide +kernel
theorem dX0_closeWays_23 : decode cX0_closeWays 23 = .ok (.invokevirtual 76, 3) := by decide +kernel
theorem dX0_closeWays_26 : decode cX0_closeWays 26 = .ok (.istore 5, 2) := by decide +kernel
theorem dX0_closeWays_28 : decode cX0_closeWays 28 = .ok (.aload_n 0, 1) := by decide +kernel
theorem dX0_closeWays_29 : decode cX0_closeWays 29 = .ok (.getfield 7, 3) := by decide +kernel
theorem dX0_closeWays_32 : decode cX0_closeWays 32 = .ok (.iload 4, 2) := by decide +kernel
theorem dX0_closeWays_34 : decode cX0_closeWays 34 = .ok (.iaload, 1) := by decide +kernel
theorem dX0_closeWays_35 : decode cX0_closeWays 35 = .ok (.iload_n 3, 1) := by decide +kernel
theorem dX0_closeWays_36 : decode cX0_closeWays 36 = .ok (.if_icmp .gt 17, 3) := by decide +kernel
theorem dX0_closeWays_39 : decode cX0_closeWays 39 = .ok (.aload_n 0, 1) := by decide +kernel
theorem dX0_closeWays_40 : decode cX0_closeWays 40 = .ok (.getfield 31, 3) := by decide +kernel
theorem dX0_closeWays_43 : decode cX0_closeWays 43 = .ok (.iload 4, 2) := by decide +kernel
theorem dX0_closeWays_45 : decode cX0_closeWays 45 = .ok (.aload_n 0, 1) := by decide +kernel
theorem dX0_closeWays_46 : decode cX0_closeWays 46 = .ok (.iload 5, 2) := by decide +kernel
theorem dX0_closeWays_48 : decode cX0_closeWays 48 = .ok (.iload_n 3, 1) := by decide +kernel
theorem dX0_closeWays_49 : decode cX0_closeWays 49 = .ok (.invokevirtual 79, 3) := by decide +kernel
theorem dX0_closeWays_52 : decode cX0_closeWays 52 = .ok (.iastore, 1) := by decide +kernel
theorem dX0_closeWays_53 : decode cX0_closeWays 53 = .ok (.iinc 4 1, 3) := by decide +kernel
theorem dX0_closeWays_56 : decode cX0_closeWays 56 = .ok (.goto (-53), 3) := by decide +kernel
theorem dX0_closeWays_59 : decode cX0_closeWays 59 = .ok (.iconst 0, 1) := by decide +kernel
theorem dX0_closeWays_60 : decode cX0_closeWays 60 = .ok (.istore 4, 2) := by decide +kernel
theorem dX0_closeWays_62 : decode cX0_closeWays 62 = .ok (.iload 4, 2) := by decide +kernel
theorem dX0_closeWays_64 : decode cX0_closeWays 64 = .ok (.bipush 8, 2) := by decide +kernel
theorem dX0_closeWays_66 : decode cX0_closeWays 66 = .ok (.if_icmp .ge 58, 3) := by decide +kernel
theorem dX0_closeWays_69 : decode cX0_closeWays 69 = .ok (.iconst 0, 1) := by decide +kernel
theorem dX0_closeWays_70 : decode cX0_closeWays 70 = .ok (.istore 5, 2) := by decide +kernel
theorem dX0_closeWays_72 : decode cX0_closeWays 72 = .ok (.iload 5, 2) := by decide +kernel
theorem dX0_closeWays_74 : decode cX0_closeWays 74 = .ok (.bipush 8, 2) := by decide +kernel
theorem dX0_closeWays_76 : decode cX0_closeWays 76 = .ok (.if_icmp .ge 42, 3) := by decide +kernel
theorem dX0_closeWays_79 : decode cX0_closeWays 79 = .ok (.aload_n 0, 1) := by decide +kernel
theorem dX0_closeWays_80 : decode cX0_closeWays 80 = .ok (.getfield 31, 3) := by decide +kernel
theorem dX0_closeWays_83 : decode cX0_closeWays 83 = .ok (.iload 5, 2) := by decide +kernel
theorem dX0_closeWays_85 : decode cX0_closeWays 85 = .ok (.iaload, 1) := by decide +kernel
theorem dX0_closeWays_86 : decode cX0_closeWays 86 = .ok (.iload 4, 2) := by decide +kernel
theorem dX0_closeWays_88 : decode cX0_closeWays 88 = .ok (.ishr, 1) := by decide +kernel
theorem dX0_closeWays_89 : decode cX0_closeWays 89 = .ok (.iconst 1, 1) := by decide +kernel
theorem dX0_closeWays_90 : decode cX0_closeWays 90 = .ok (.iand, 1) := by decide +kernel
theorem dX0_closeWays_91 : decode cX0_closeWays 91 = .ok (.iconst 1, 1) := by decide +kernel
theorem dX0_closeWays_92 : decode cX0_closeWays 92 = .ok (.if_icmp .ne 20, 3) := by decide +kernel
theorem dX0_closeWays_95 : decode cX0_closeWays 95 = .ok (.aload_n 0, 1) := by decide +kernel
theorem dX0_closeWays_96 : decode cX0_closeWays 96 = .ok (.getfield 31, 3) := by decide +kernel
theorem dX0_closeWays_99 : decode cX0_closeWays 99 = .ok (.iload 5, 2) := by decide +kernel
theorem dX0_closeWays_101 : decode cX0_closeWays 101 = .ok (.dup2, 1) := by decide +kernel
theorem dX0_closeWays_102 : decode cX0_closeWays 102 = .ok (.iaload, 1) := by decide +kernel
theorem dX0_closeWays_103 : decode cX0_closeWays 103 = .ok (.aload_n 0, 1) := by decide +kernel
theorem dX0_closeWays_104 : decode cX0_closeWays 104 = .ok (.getfield 31, 3) := by decide +kernel
theorem dX0_closeWays_107 : decode cX0_closeWays 107 = .ok (.iload 4, 2) := by decide +kernel
theorem dX0_closeWays_109 : decode cX0_closeWays 109 = .ok (.iaload, 1) := by decide +kernel
theorem dX0_closeWays_110 : decode cX0_closeWays 110 = .ok (.ior, 1) := by decide +kernel
theorem dX0_closeWays_111 : decode cX0_closeWays 111 = .ok (.iastore, 1) := by decide +kernel
theorem dX0_closeWays_112 : decode cX0_closeWays 112 = .ok (.iinc 5 1, 3) := by decide +kernel
theorem dX0_closeWays_115 : decode cX0_closeWays 115 = .ok (.goto (-43), 3) := by decide +kernel
theorem dX0_closeWays_118 : decode cX0_closeWays 118 = .ok (.iinc 4 1, 3) := by decide +kernel
theorem dX0_closeWays_121 : decode cX0_closeWays 121 = .ok (.goto (-59), 3) := by decide +kernel
theorem dX0_closeWays_124 : decode cX0_closeWays 124 = .ok (.return_, 1) := by decide +kernel
theorem dX0_movesBy_0 : decode cX0_movesBy 0 = .ok (.aload_n 0, 1) := by decide +kernel
theorem dX0_movesBy_1 : decode cX0_movesBy 1 = .ok (.iload_n 1, 1) := by decide +kernel
theorem dX0_movesBy_2 : decode cX0_movesBy 2 = .ok (.invokevirtual 42, 3) := by decide +kernel
theorem dX0_movesBy_5 : decode cX0_movesBy 5 = .ok (.iload_n 2, 1) := by decide +kernel
theorem dX0_movesBy_6 : decode cX0_movesBy 6 = .ok (.if_icmp .eq 9, 3) := by decide +kernel
theorem dX0_movesBy_9 : decode cX0_movesBy 9 = .ok (.aload_n 0, 1) := by decide +kernel
theorem dX0_movesBy_10 : decode cX0_movesBy 10 = .ok (.iload_n 1, 1) := by decide +kernel
theorem dX0_movesBy_11 : decode cX0_movesBy 11 = .ok (.invokevirtual 46, 3) := by decide +kernel
theorem dX0_movesBy_14 : decode cX0_movesBy 14 = .ok (.ireturn, 1) := by decide +kernel
theorem dX0_movesBy_15 : decode cX0_movesBy 15 = .ok (.iload_n 3, 1) := by decide +kernel
theorem dX0_movesBy_16 : decode cX0_movesBy 16 = .ok (.iload_n 1, 1) := by decide +kernel
theorem dX0_movesBy_17 : decode cX0_movesBy 17 = .ok (.ishr, 1) := by decide +kernel
theorem dX0_movesBy_18 : decode cX0_movesBy 18 = .ok (.iconst 1, 1) := by decide +kernel
theorem dX0_movesBy_19 : decode cX0_movesBy 19 = .ok (.iand, 1) := by decide +kernel
theorem dX0_movesBy_20 : decode cX0_movesBy 20 = .ok (.iconst 1, 1) := by decide +kernel
theorem dX0_movesBy_21 : decode cX0_movesBy 21 = .ok (.if_icmp .ne 14, 3) := by decide +kernel
theorem dX0_movesBy_24 : decode cX0_movesBy 24 = .ok (.iconst 1, 1) := by decide +kernel
theorem dX0_movesBy_25 : decode cX0_movesBy 25 = .ok (.aload_n 0, 1) := by decide +kernel
theorem dX0_movesBy_26 : decode cX0_movesBy 26 = .ok (.getfield 16, 3) := by decide +kernel
theorem dX0_movesBy_29 : decode cX0_movesBy 29 = .ok (.iload_n 1, 1) := by decide +kernel
theorem dX0_movesBy_30 : decode cX0_movesBy 30 = .ok (.iaload, 1) := by decide +kernel
theorem dX0_movesBy_31 : decode cX0_movesBy 31 = .ok (.ishl, 1) := by decide +kernel
theorem dX0_movesBy_32 : decode cX0_movesBy 32 = .ok (.goto 11, 3) := by decide +kernel
theorem dX0_movesBy_35 : decode cX0_movesBy 35 = .ok (.iconst 1, 1) := by decide +kernel
theorem dX0_movesBy_36 : decode cX0_movesBy 36 = .ok (.aload_n 0, 1) := by decide +kernel
theorem dX0_movesBy_37 : decode cX0_movesBy 37 = .ok (.getfield 13, 3) := by decide +kernel
theorem dX0_movesBy_40 : decode cX0_movesBy 40 = .ok (.iload_n 1, 1) := by decide +kernel
theorem dX0_movesBy_41 : decode cX0_movesBy 41 = .ok (.iaload, 1) := by decide +kernel
theorem dX0_movesBy_42 : decode cX0_movesBy 42 = .ok (.ishl, 1) := by decide +kernel
theorem dX0_movesBy_43 : decode cX0_movesBy 43 = .ok (.ireturn, 1) := by decide +kernel
theorem dX0_lowOnly_0 : decode cX0_lowOnly 0 = .ok (.iconst 0, 1) := by decide +kernel
theorem dX0_lowOnly_1 : decode cX0_lowOnly 1 = .ok (.istore_n 3, 1) := by decide +kernel
theorem dX0_lowOnly_2 : decode cX0_lowOnly 2 = .ok (.iconst 0, 1) := by decide +kernel
theorem dX0_lowOnly_3 : decode cX0_lowOnly 3 = .ok (.istore 4, 2) := by decide +kernel
theorem dX0_lowOnly_5 : decode cX0_lowOnly 5 = .ok (.iload 4, 2) := by decide +kernel
theorem dX0_lowOnly_7 : decode cX0_lowOnly 7 = .ok (.bipush 8, 2) := by decide +kernel
theorem dX0_lowOnly_9 : decode cX0_lowOnly 9 = .ok (.if_icmp .ge 37, 3) := by decide +kernel
theorem dX0_lowOnly_12 : decode cX0_lowOnly 12 = .ok (.iload_n 1, 1) := by decide +kernel
theorem dX0_lowOnly_13 : decode cX0_lowOnly 13 = .ok (.iload 4, 2) := by decide +kernel
theorem dX0_lowOnly_15 : decode cX0_lowOnly 15 = .ok (.ishr, 1) := by decide +kernel
theorem dX0_lowOnly_16 : decode cX0_lowOnly 16 = .ok (.iconst 1, 1) := by decide +kernel
theorem dX0_lowOnly_17 : decode cX0_lowOnly 17 = .ok (.iand, 1) := by decide +kernel
theorem dX0_lowOnly_18 : decode cX0_lowOnly 18 = .ok (.iconst 1, 1) := by decide +kernel
theorem dX0_lowOnly_19 : decode cX0_lowOnly 19 = .ok (.if_icmp .ne 21, 3) := by decide +kernel
theorem dX0_lowOnly_22 : decode cX0_lowOnly 22 = .ok (.aload_n 0, 1) := by decide +kernel
theorem dX0_lowOnly_23 : decode cX0_lowOnly 23 = .ok (.getfield 7, 3) := by decide +kernel
theorem dX0_lowOnly_26 : decode cX0_lowOnly 26 = .ok (.iload 4, 2) := by decide +kernel
theorem dX0_lowOnly_28 : decode cX0_lowOnly 28 = .ok (.iaload, 1) := by decide +kernel
theorem dX0_lowOnly_29 : decode cX0_lowOnly 29 = .ok (.iload_n 2, 1) := by decide +kernel
theorem dX0_lowOnly_30 : decode cX0_lowOnly 30 = .ok (.if_icmp .gt 10, 3) := by decide +kernel
theorem dX0_lowOnly_33 : decode cX0_lowOnly 33 = .ok (.iload_n 3, 1) := by decide +kernel
theorem dX0_lowOnly_34 : decode cX0_lowOnly 34 = .ok (.iconst 1, 1) := by decide +kernel
theorem dX0_lowOnly_35 : decode cX0_lowOnly 35 = .ok (.iload 4, 2) := by decide +kernel
theorem dX0_lowOnly_37 : decode cX0_lowOnly 37 = .ok (.ishl, 1) := by decide +kernel
theorem dX0_lowOnly_38 : decode cX0_lowOnly 38 = .ok (.ior, 1) := by decide +kernel
theorem dX0_lowOnly_39 : decode cX0_lowOnly 39 = .ok (.istore_n 3, 1) := by decide +kernel
theorem dX0_lowOnly_40 : decode cX0_lowOnly 40 = .ok (.iinc 4 1, 3) := by decide +kernel
theorem dX0_lowOnly_43 : decode cX0_lowOnly 43 = .ok (.goto (-38), 3) := by decide +kernel
theorem dX0_lowOnly_46 : decode cX0_lowOnly 46 = .ok (.iload_n 3, 1) := by decide +kernel
theorem dX0_lowOnly_47 : decode cX0_lowOnly 47 = .ok (.ireturn, 1) := by decide +kernel
theorem dX0_plans_0 : decode cX0_plans 0 = .ok (.iload_n 1, 1) := by decide +kernel
theorem dX0_plans_1 : decode cX0_plans 1 = .ok (.ifCond .lt 8, 3) := by decide +kernel
theorem dX0_plans_4 : decode cX0_plans 4 = .ok (.iload_n 1, 1) := by decide +kernel
theorem dX0_plans_5 : decode cX0_plans 5 = .ok (.iconst 1, 1) := by decide +kernel
theorem dX0_plans_6 : decode cX0_plans 6 = .ok (.if_icmp .le 6, 3) := by decide +kernel
theorem dX0_plans_9 : decode cX0_plans 9 = .ok (.bipush (-3), 2) := by decide +kernel
theorem dX0_plans_11 : decode cX0_plans 11 = .ok (.ireturn, 1) := by decide +kernel
theorem dX0_plans_12 : decode cX0_plans 12 = .ok (.aload_n 0, 1) := by decide +kernel
theorem dX0_plans_13 : decode cX0_plans 13 = .ok (.invokevirtual 89, 3) := by decide +kernel
theorem dX0_plans_16 : decode cX0_plans 16 = .ok (.iconst 0, 1) := by decide +kernel
theorem dX0_plans_17 : decode cX0_plans 17 = .ok (.istore_n 2, 1) := by decide +kernel
theorem dX0_plans_18 : decode cX0_plans 18 = .ok (.iconst 0, 1) := by decide +kernel
theorem dX0_plans_19 : decode cX0_plans 19 = .ok (.istore_n 3, 1) := by decide +kernel
theorem dX0_plans_20 : decode cX0_plans 20 = .ok (.iload_n 3, 1) := by decide +kernel
theorem dX0_plans_21 : decode cX0_plans 21 = .ok (.sipush 255, 3) := by decide +kernel
theorem dX0_plans_24 : decode cX0_plans 24 = .ok (.if_icmp .gt 31, 3) := by decide +kernel
theorem dX0_plans_27 : decode cX0_plans 27 = .ok (.aload_n 0, 1) := by decide +kernel
theorem dX0_plans_28 : decode cX0_plans 28 = .ok (.iload_n 1, 1) := by decide +kernel
theorem dX0_plans_29 : decode cX0_plans 29 = .ok (.iload_n 3, 1) := by decide +kernel
theorem dX0_plans_30 : decode cX0_plans 30 = .ok (.aload_n 0, 1) := by decide +kernel
theorem dX0_plans_31 : decode cX0_plans 31 = .ok (.getfield 28, 3) := by decide +kernel
theorem dX0_plans_34 : decode cX0_plans 34 = .ok (.iload_n 1, 1) := by decide +kernel
theorem dX0_plans_35 : decode cX0_plans 35 = .ok (.iaload, 1) := by decide +kernel
theorem dX0_plans_36 : decode cX0_plans 36 = .ok (.invokevirtual 92, 3) := by decide +kernel
theorem dX0_plans_39 : decode cX0_plans 39 = .ok (.istore 4, 2) := by decide +kernel
theorem dX0_plans_41 : decode cX0_plans 41 = .ok (.iload 4, 2) := by decide +kernel
theorem dX0_plans_43 : decode cX0_plans 43 = .ok (.ifCond .eq 6, 3) := by decide +kernel
theorem dX0_plans_46 : decode cX0_plans 46 = .ok (.iinc 2 1, 3) := by decide +kernel
theorem dX0_plans_49 : decode cX0_plans 49 = .ok (.iinc 3 1, 3) := by decide +kernel
theorem dX0_plans_52 : decode cX0_plans 52 = .ok (.goto (-32), 3) := by decide +kernel
theorem dX0_plans_55 : decode cX0_plans 55 = .ok (.iload_n 2, 1) := by decide +kernel
theorem dX0_plans_56 : decode cX0_plans 56 = .ok (.ireturn, 1) := by decide +kernel
theorem dX0_firstPlan_0 : decode cX0_firstPlan 0 = .ok (.iload_n 1, 1) := by decide +kernel
theorem dX0_firstPlan_1 : decode cX0_firstPlan 1 = .ok (.ifCond .lt 8, 3) := by decide +kernel
theorem dX0_firstPlan_4 : decode cX0_firstPlan 4 = .ok (.iload_n 1, 1) := by decide +kernel
theorem dX0_firstPlan_5 : decode cX0_firstPlan 5 = .ok (.iconst 1, 1) := by decide +kernel
theorem dX0_firstPlan_6 : decode cX0_firstPlan 6 = .ok (.if_icmp .le 6, 3) := by decide +kernel
theorem dX0_firstPlan_9 : decode cX0_firstPlan 9 = .ok (.bipush (-3), 2) := by decide +kernel
theorem dX0_firstPlan_11 : decode cX0_firstPlan 11 = .ok (.ireturn, 1) := by decide +kernel
theorem dX0_firstPlan_12 : decode cX0_firstPlan 12 = .ok (.aload_n 0, 1) := by decide +kernel
theorem dX0_firstPlan_13 : decode cX0_firstPlan 13 = .ok (.invokevirtual 89, 3) := by decide +kernel
theorem dX0_firstPlan_16 : decode cX0_firstPlan 16 = .ok (.iconst 0, 1) := by decide +kernel
theorem dX0_firstPlan_17 : decode cX0_firstPlan 17 = .ok (.istore_n 2, 1) := by decide +kernel
theorem dX0_firstPlan_18 : decode cX0_firstPlan 18 = .ok (.aload_n 0, 1) := by decide +kernel
theorem dX0_firstPlan_19 : decode cX0_firstPlan 19 = .ok (.iload_n 1, 1) := by decide +kernel
theorem dX0_firstPlan_20 : decode cX0_firstPlan 20 = .ok (.iconst 0, 1) := by decide +kernel
theorem dX0_firstPlan_21 : decode cX0_firstPlan 21 = .ok (.aload_n 0, 1) := by decide +kernel
theorem dX0_firstPlan_22 : decode cX0_firstPlan 22 = .ok (.getfield 28, 3) := by decide +kernel
theorem dX0_firstPlan_25 : decode cX0_firstPlan 25 = .ok (.iload_n 1, 1) := by decide +kernel
theorem dX0_firstPlan_26 : decode cX0_firstPlan 26 = .ok (.iaload, 1) := by decide +kernel
theorem dX0_firstPlan_27 : decode cX0_firstPlan 27 = .ok (.invokevirtual 92, 3) := by decide +kernel
theorem dX0_firstPlan_30 : decode cX0_firstPlan 30 = .ok (.istore_n 3, 1) := by decide +kernel
theorem dX0_firstPlan_31 : decode cX0_firstPlan 31 = .ok (.iload_n 3, 1) := by decide +kernel
theorem dX0_firstPlan_32 : decode cX0_firstPlan 32 = .ok (.ifCond .ne 29, 3) := by decide +kernel
theorem dX0_firstPlan_35 : decode cX0_firstPlan 35 = .ok (.iload_n 2, 1) := by decide +kernel
theorem dX0_firstPlan_36 : decode cX0_firstPlan 36 = .ok (.sipush 255, 3) := by decide +kernel
theorem dX0_firstPlan_39 : decode cX0_firstPlan 39 = .ok (.if_icmp .ge 22, 3) := by decide +kernel
theorem dX0_firstPlan_42 : decode cX0_firstPlan 42 = .ok (.iinc 2 1, 3) := by decide +kernel
theorem dX0_firstPlan_45 : decode cX0_firstPlan 45 = .ok (.aload_n 0, 1) := by decide +kernel
theorem dX0_firstPlan_46 : decode cX0_firstPlan 46 = .ok (.iload_n 1, 1) := by decide +kernel
theorem dX0_firstPlan_47 : decode cX0_firstPlan 47 = .ok (.iload_n 2, 1) := by decide +kernel
theorem dX0_firstPlan_48 : decode cX0_firstPlan 48 = .ok (.aload_n 0, 1) := by decide +kernel
theorem dX0_firstPlan_49 : decode cX0_firstPlan 49 = .ok (.getfield 28, 3) := by decide +kernel
theorem dX0_firstPlan_52 : decode cX0_firstPlan 52 = .ok (.iload_n 1, 1) := by decide +kernel
theorem dX0_firstPlan_53 : decode cX0_firstPlan 53 = .ok (.iaload, 1) := by decide +kernel
theorem dX0_firstPlan_54 : decode cX0_firstPlan 54 = .ok (.invokevirtual 92, 3) := by decide +kernel
theorem dX0_firstPlan_57 : decode cX0_firstPlan 57 = .ok (.istore_n 3, 1) := by decide +kernel
theorem dX0_firstPlan_58 : decode cX0_firstPlan 58 = .ok (.goto (-27), 3) := by decide +kernel
theorem dX0_firstPlan_61 : decode cX0_firstPlan 61 = .ok (.iload_n 2, 1) := by decide +kernel
theorem dX0_firstPlan_62 : decode cX0_firstPlan 62 = .ok (.ireturn, 1) := by decide +kernel
theorem dX0_canForce_0 : decode cX0_canForce 0 = .ok (.iload_n 1, 1) := by decide +kernel
theorem dX0_canForce_1 : decode cX0_canForce 1 = .ok (.invokestatic 38, 3) := by decide +kernel
theorem dX0_canForce_4 : decode cX0_canForce 4 = .ok (.ifCond .ne 10, 3) := by decide +kernel
theorem dX0_canForce_7 : decode cX0_canForce 7 = .ok (.iload_n 2, 1) := by decide +kernel
theorem dX0_canForce_8 : decode cX0_canForce 8 = .ok (.invokestatic 38, 3) := by decide +kernel
theorem dX0_canForce_11 : decode cX0_canForce 11 = .ok (.ifCond .eq 5, 3) := by decide +kernel
theorem dX0_canForce_14 : decode cX0_canForce 14 = .ok (.iconst 0, 1) := by decide +kernel
theorem dX0_canForce_15 : decode cX0_canForce 15 = .ok (.ireturn, 1) := by decide +kernel
theorem dX0_canForce_16 : decode cX0_canForce 16 = .ok (.aload_n 0, 1) := by decide +kernel
theorem dX0_canForce_17 : decode cX0_canForce 17 = .ok (.iconst 0, 1) := by decide +kernel
theorem dX0_canForce_18 : decode cX0_canForce 18 = .ok (.iconst 1, 1) := by decide +kernel
theorem dX0_canForce_19 : decode cX0_canForce 19 = .ok (.iload_n 2, 1) := by decide +kernel
theorem dX0_canForce_20 : decode cX0_canForce 20 = .ok (.ishl, 1) := by decide +kernel
theorem dX0_canForce_21 : decode cX0_canForce 21 = .ok (.sipush 255, 3) := by decide +kernel
theorem dX0_canForce_24 : decode cX0_canForce 24 = .ok (.invokevirtual 59, 3) := by decide +kernel
theorem dX0_canForce_27 : decode cX0_canForce 27 = .ok (.istore_n 3, 1) := by decide +kernel
theorem dX0_canForce_28 : decode cX0_canForce 28 = .ok (.iload_n 3, 1) := by decide +kernel
theorem dX0_canForce_29 : decode cX0_canForce 29 = .ok (.iload_n 1, 1) := by decide +kernel
theorem dX0_canForce_30 : decode cX0_canForce 30 = .ok (.ishr, 1) := by decide +kernel
theorem dX0_canForce_31 : decode cX0_canForce 31 = .ok (.iconst 1, 1) := by decide +kernel
theorem dX0_canForce_32 : decode cX0_canForce 32 = .ok (.iand, 1) := by decide +kernel
theorem dX0_canForce_33 : decode cX0_canForce 33 = .ok (.iconst 1, 1) := by decide +kernel
theorem dX0_canForce_34 : decode cX0_canForce 34 = .ok (.if_icmp .ne 7, 3) := by decide +kernel
theorem dX0_canForce_37 : decode cX0_canForce 37 = .ok (.iconst 1, 1) := by decide +kernel
theorem dX0_canForce_38 : decode cX0_canForce 38 = .ok (.goto 4, 3) := by decide +kernel
theorem dX0_canForce_41 : decode cX0_canForce 41 = .ok (.iconst 0, 1) := by decide +kernel
theorem dX0_canForce_42 : decode cX0_canForce 42 = .ok (.ireturn, 1) := by decide +kernel
theorem dX0_contested_0 : decode cX0_contested 0 = .ok (.aload_n 0, 1) := by decide +kernel
theorem dX0_contested_1 : decode cX0_contested 1 = .ok (.invokevirtual 89, 3) := by decide +kernel
theorem dX0_contested_4 : decode cX0_contested 4 = .ok (.aload_n 0, 1) := by decide +kernel
theorem dX0_contested_5 : decode cX0_contested 5 = .ok (.getfield 28, 3) := by decide +kernel
theorem dX0_contested_8 : decode cX0_contested 8 = .ok (.iconst 0, 1) := by decide +kernel
theorem dX0_contested_9 : decode cX0_contested 9 = .ok (.iaload, 1) := by decide +kernel
theorem dX0_contested_10 : decode cX0_contested 10 = .ok (.istore_n 1, 1) := by decide +kernel
theorem dX0_contested_11 : decode cX0_contested 11 = .ok (.iconst 0, 1) := by decide +kernel
theorem dX0_contested_12 : decode cX0_contested 12 = .ok (.istore_n 2, 1) := by decide +kernel
theorem dX0_contested_13 : decode cX0_contested 13 = .ok (.iconst 0, 1) := by decide +kernel
theorem dX0_contested_14 : decode cX0_contested 14 = .ok (.istore_n 3, 1) := by decide +kernel
theorem dX0_contested_15 : decode cX0_contested 15 = .ok (.iload_n 3, 1) := by decide +kernel
theorem dX0_contested_16 : decode cX0_contested 16 = .ok (.bipush 8, 2) := by decide +kernel
theorem dX0_contested_18 : decode cX0_contested 18 = .ok (.if_icmp .ge 50, 3) := by decide +kernel
theorem dX0_contested_21 : decode cX0_contested 21 = .ok (.aload_n 0, 1) := by decide +kernel
theorem dX0_contested_22 : decode cX0_contested 22 = .ok (.dup, 1) := by decide +kernel
theorem dX0_contested_23 : decode cX0_contested 23 = .ok (.getfield 34, 3) := by decide +kernel
theorem dX0_contested_26 : decode cX0_contested 26 = .ok (.iconst 1, 1) := by decide +kernel
theorem dX0_contested_27 : decode cX0_contested 27 = .ok (.iload_n 3, 1) := by decide +kernel
theorem dX0_contested_28 : decode cX0_contested 28 = .ok (.ishl, 1) := by decide +kernel
theorem dX0_contested_29 : decode cX0_contested 29 = .ok (.ixor, 1) := by decide +kernel
theorem dX0_contested_30 : decode cX0_contested 30 = .ok (.putfield 34, 3) := by decide +kernel
theorem dX0_contested_33 : decode cX0_contested 33 = .ok (.aload_n 0, 1) := by decide +kernel
theorem dX0_contested_34 : decode cX0_contested 34 = .ok (.invokevirtual 89, 3) := by decide +kernel
theorem dX0_contested_37 : decode cX0_contested 37 = .ok (.aload_n 0, 1) := by decide +kernel
theorem dX0_contested_38 : decode cX0_contested 38 = .ok (.getfield 28, 3) := by decide +kernel
theorem dX0_contested_41 : decode cX0_contested 41 = .ok (.iconst 0, 1) := by decide +kernel
theorem dX0_contested_42 : decode cX0_contested 42 = .ok (.iaload, 1) := by decide +kernel
theorem dX0_contested_43 : decode cX0_contested 43 = .ok (.iload_n 1, 1) := by decide +kernel
theorem dX0_contested_44 : decode cX0_contested 44 = .ok (.if_icmp .eq 6, 3) := by decide +kernel
theorem dX0_contested_47 : decode cX0_contested 47 = .ok (.iinc 2 1, 3) := by decide +kernel
theorem dX0_contested_50 : decode cX0_contested 50 = .ok (.aload_n 0, 1) := by decide +kernel
theorem dX0_contested_51 : decode cX0_contested 51 = .ok (.dup, 1) := by decide +kernel
theorem dX0_contested_52 : decode cX0_contested 52 = .ok (.getfield 34, 3) := by decide +kernel
theorem dX0_contested_55 : decode cX0_contested 55 = .ok (.iconst 1, 1) := by decide +kernel
theorem dX0_contested_56 : decode cX0_contested 56 = .ok (.iload_n 3, 1) := by decide +kernel
theorem dX0_contested_57 : decode cX0_contested 57 = .ok (.ishl, 1) := by decide +kernel
theorem dX0_contested_58 : decode cX0_contested 58 = .ok (.ixor, 1) := by decide +kernel
theorem dX0_contested_59 : decode cX0_contested 59 = .ok (.putfield 34, 3) := by decide +kernel
theorem dX0_contested_62 : decode cX0_contested 62 = .ok (.iinc 3 1, 3) := by decide +kernel
theorem dX0_contested_65 : decode cX0_contested 65 = .ok (.goto (-50), 3) := by decide +kernel
theorem dX0_contested_68 : decode cX0_contested 68 = .ok (.iload_n 2, 1) := by decide +kernel
theorem dX0_contested_69 : decode cX0_contested 69 = .ok (.ireturn, 1) := by decide +kernel
end
section
/-! decode rows of X1 -/
set_option maxRecDepth 100000
theorem dX1_init_0 : decode cX1_init 0 = .ok (.aload_n 0, 1) := by decide +kernel
theorem dX1_init_1 : decode cX1_init 1 = .ok (.invokespecial 1, 3) := by decide +kernel
theorem dX1_init_4 : decode cX1_init 4 = .ok (.aload_n 0, 1) := by decide +kernel
theorem dX1_init_5 : decode cX1_init 5 = .ok (.bipush 8, 2) := by decide +kernel
theorem dX1_init_7 : decode cX1_init 7 = .ok (.newarray .int, 2) := by decide +kernel
theorem dX1_init_9 : decode cX1_init 9 = .ok (.putfield 7, 3) := by decide +kernel
theorem dX1_init_12 : decode cX1_init 12 = .ok (.aload_n 0, 1) := by decide +kernel
theorem dX1_init_13 : decode cX1_init 13 = .ok (.bipush 8, 2) := by decide +kernel
theorem dX1_init_15 : decode cX1_init 15 = .ok (.newarray .int, 2) := by decide +kernel
theorem dX1_init_17 : decode cX1_init 17 = .ok (.putfield 13, 3) := by decide +kernel
theorem dX1_init_20 : decode cX1_init 20 = .ok (.aload_n 0, 1) := by decide +kernel
theorem dX1_init_21 : decode cX1_init 21 = .ok (.bipush 8, 2) := by decide +kernel
theorem dX1_init_23 : decode cX1_init 23 = .ok (.newarray .int, 2) := by decide +kernel
theorem dX1_init_25 : decode cX1_init 25 = .ok (.putfield 16, 3) := by decide +kernel
theorem dX1_init_28 : decode cX1_init 28 = .ok (.aload_n 0, 1) := by decide +kernel
theorem dX1_init_29 : decode cX1_init 29 = .ok (.bipush 8, 2) := by decide +kernel
theorem dX1_init_31 : decode cX1_init 31 = .ok (.newarray .int, 2) := by decide +kernel
theorem dX1_init_33 : decode cX1_init 33 = .ok (.putfield 19, 3) := by decide +kernel
theorem dX1_init_36 : decode cX1_init 36 = .ok (.aload_n 0, 1) := by decide +kernel
theorem dX1_init_37 : decode cX1_init 37 = .ok (.bipush 8, 2) := by decide +kernel
theorem dX1_init_39 : decode cX1_init 39 = .ok (.newarray .int, 2) := by decide +kernel
theorem dX1_init_41 : decode cX1_init 41 = .ok (.putfield 22, 3) := by decide +kernel
theorem dX1_init_44 : decode cX1_init 44 = .ok (.iconst 0, 1) := by decide +kernel
theorem dX1_init_45 : decode cX1_init 45 = .ok (.istore_n 1, 1) := by decide +kernel
theorem dX1_init_46 : decode cX1_init 46 = .ok (.iload_n 1, 1) := by decide +kernel
theorem dX1_init_47 : decode cX1_init 47 = .ok (.bipush 8, 2) := by decide +kernel
theorem dX1_init_49 : decode cX1_init 49 = .ok (.if_icmp .ge 23, 3) := by decide +kernel
theorem dX1_init_52 : decode cX1_init 52 = .ok (.aload_n 0, 1) := by decide +kernel
theorem dX1_init_53 : decode cX1_init 53 = .ok (.getfield 16, 3) := by decide +kernel
theorem dX1_init_56 : decode cX1_init 56 = .ok (.iload_n 1, 1) := by decide +kernel
theorem dX1_init_57 : decode cX1_init 57 = .ok (.iload_n 1, 1) := by decide +kernel
theorem dX1_init_58 : decode cX1_init 58 = .ok (.iastore, 1) := by decide +kernel
theorem dX1_init_59 : decode cX1_init 59 = .ok (.aload_n 0, 1) := by decide +kernel
theorem dX1_init_60 : decode cX1_init 60 = .ok (.getfield 19, 3) := by decide +kernel
theorem dX1_init_63 : decode cX1_init 63 = .ok (.iload_n 1, 1) := by decide +kernel
theorem dX1_init_64 : decode cX1_init 64 = .ok (.iload_n 1, 1) := by decide +kernel
theorem dX1_init_65 : decode cX1_init 65 = .ok (.iastore, 1) := by decide +kernel
theorem dX1_init_66 : decode cX1_init 66 = .ok (.iinc 1 1, 3) := by decide +kernel
theorem dX1_init_69 : decode cX1_init 69 = .ok (.goto (-23), 3) := by decide +kernel
theorem dX1_init_72 : decode cX1_init 72 = .ok (.return_, 1) := by decide +kernel
theorem dX1_set_0 : decode cX1_set 0 = .ok (.aload_n 0, 1) := by decide +kernel
theorem dX1_set_1 : decode cX1_set 1 = .ok (.iload_n 1, 1) := by decide +kernel
theorem dX1_set_2 : decode cX1_set 2 = .ok (.invokevirtual 25, 3) := by decide +kernel
theorem dX1_set_5 : decode cX1_set 5 = .ok (.ifCond .eq 5, 3) := by decide +kernel
theorem dX1_set_8 : decode cX1_set 8 = .ok (.iconst (-1), 1) := by decide +kernel
theorem dX1_set_9 : decode cX1_set 9 = .ok (.ireturn, 1) := by decide +kernel
theorem dX1_set_10 : decode cX1_set 10 = .ok (.iload_n 2, 1) := by decide +kernel
theorem dX1_set_11 : decode cX1_set 11 = .ok (.ifCond .lt 8, 3) := by decide +kernel
theorem dX1_set_14 : decode cX1_set 14 = .ok (.iload_n 2, 1) := by decide +kernel
theorem dX1_set_15 : decode cX1_set 15 = .ok (.iconst 1, 1) := by decide +kernel
theorem dX1_set_16 : decode cX1_set 16 = .ok (.if_icmp .le 6, 3) := by decide +kernel
theorem dX1_set_19 : decode cX1_set 19 = .ok (.bipush (-3), 2) := by decide +kernel
theorem dX1_set_21 : decode cX1_set 21 = .ok (.ireturn, 1) := by decide +kernel
theorem dX1_set_22 : decode cX1_set 22 = .ok (.aload_n 0, 1) := by decide +kernel
theorem dX1_set_23 : decode cX1_set 23 = .ok (.iload_n 3, 1) := by decide +kernel
theorem dX1_set_24 : decode cX1_set 24 = .ok (.invokevirtual 29, 3) := by decide +kernel
theorem dX1_set_27 : decode cX1_set 27 = .ok (.ifCond .eq 6, 3) := by decide +kernel
theorem dX1_set_30 : decode cX1_set 30 = .ok (.bipush (-2), 2) := by decide +kernel
theorem dX1_set_32 : decode cX1_set 32 = .ok (.ireturn, 1) := by decide +kernel
theorem dX1_set_33 : decode cX1_set 33 = .ok (.aload_n 0, 1) := by decide +kernel
theorem dX1_set_34 : decode cX1_set 34 = .ok (.getfield 7, 3) := by decide +kernel
theorem dX1_set_37 : decode cX1_set 37 = .ok (.iload_n 1, 1) := by decide +kernel
theorem dX1_set_38 : decode cX1_set 38 = .ok (.iload_n 2, 1) := by decide +kernel
theorem dX1_set_39 : decode cX1_set 39 = .ok (.iastore, 1) := by decide +kernel
theorem dX1_set_40 : decode cX1_set 40 = .ok (.aload_n 0, 1) := by decide +kernel
theorem dX1_set_41 : decode cX1_set 41 = .ok (.getfield 13, 3) := by decide +kernel
theorem dX1_set_44 : decode cX1_set 44 = .ok (.iload_n 1, 1) := by decide +kernel
theorem dX1_set_45 : decode cX1_set 45 = .ok (.iload_n 3, 1) := by decide +kernel
theorem dX1_set_46 : decode cX1_set 46 = .ok (.iastore, 1) := by decide +kernel
theorem dX1_set_47 : decode cX1_set 47 = .ok (.aload_n 0, 1) := by decide +kernel
theorem dX1_set_48 : decode cX1_set 48 = .ok (.getfield 16, 3) := by decide +kernel
theorem dX1_set_51 : decode cX1_set 51 = .ok (.iload_n 1, 1) := by decide +kernel
theorem dX1_set_52 : decode cX1_set 52 = .ok (.iload 4, 2) := by decide +kernel
theorem dX1_set_54 : decode cX1_set 54 = .ok (.bipush 7, 2) := by decide +kernel
theorem dX1_set_56 : decode cX1_set 56 = .ok (.iand, 1) := by decide +kernel
theorem dX1_set_57 : decode cX1_set 57 = .ok (.iastore, 1) := by decide +kernel
theorem dX1_set_58 : decode cX1_set 58 = .ok (.aload_n 0, 1) := by decide +kernel
theorem dX1_set_59 : decode cX1_set 59 = .ok (.getfield 19, 3) := by decide +kernel
theorem dX1_set_62 : decode cX1_set 62 = .ok (.iload_n 1, 1) := by decide +kernel
theorem dX1_set_63 : decode cX1_set 63 = .ok (.iload 4, 2) := by decide +kernel
theorem dX1_set_65 : decode cX1_set 65 = .ok (.iconst 3, 1) := by decide +kernel
theorem dX1_set_66 : decode cX1_set 66 = .ok (.ishr, 1) := by decide +kernel
theorem dX1_set_67 : decode cX1_set 67 = .ok (.bipush 7, 2) := by decide +kernel
theorem dX1_set_69 : decode cX1_set 69 = .ok (.iand, 1) := by decide +kernel
theorem dX1_set_70 : decode cX1_set 70 = .ok (.iastore, 1) := by decide +kernel
theorem dX1_set_71 : decode cX1_set 71 = .ok (.aload_n 0, 1) := by decide +kernel
theorem dX1_set_72 : decode cX1_set 72 = .ok (.iconst 0, 1) := by decide +kernel
theorem dX1_set_73 : decode cX1_set 73 = .ok (.putfield 32, 3) := by decide +kernel
theorem dX1_set_76 : decode cX1_set 76 = .ok (.iconst 0, 1) := by decide +kernel
theorem dX1_set_77 : decode cX1_set 77 = .ok (.ireturn, 1) := by decide +kernel
theorem dX1_bad_0 : decode cX1_bad 0 = .ok (.iload_n 1, 1) := by decide +kernel
theorem dX1_bad_1 : decode cX1_bad 1 = .ok (.ifCond .lt 9, 3) := by decide +kernel
theorem dX1_bad_4 : decode cX1_bad 4 = .ok (.iload_n 1, 1) := by decide +kernel
theorem dX1_bad_5 : decode cX1_bad 5 = .ok (.bipush 7, 2) := by decide +kernel
theorem dX1_bad_7 : decode cX1_bad 7 = .ok (.if_icmp .le 7, 3) := by decide +kernel
theorem dX1_bad_10 : decode cX1_bad 10 = .ok (.iconst 1, 1) := by decide +kernel
theorem dX1_bad_11 : decode cX1_bad 11 = .ok (.goto 4, 3) := by decide +kernel
theorem dX1_bad_14 : decode cX1_bad 14 = .ok (.iconst 0, 1) := by decide +kernel
theorem dX1_bad_15 : decode cX1_bad 15 = .ok (.ireturn, 1) := by decide +kernel
theorem dX1_badColour_0 : decode cX1_badColour 0 = .ok (.iload_n 1, 1) := by decide +kernel
theorem dX1_badColour_1 : decode cX1_badColour 1 = .ok (.ifCond .lt 8, 3) := by decide +kernel
theorem dX1_badColour_4 : decode cX1_badColour 4 = .ok (.iload_n 1, 1) := by decide +kernel
theorem dX1_badColour_5 : decode cX1_badColour 5 = .ok (.iconst 5, 1) := by decide +kernel
theorem dX1_badColour_6 : decode cX1_badColour 6 = .ok (.if_icmp .le 7, 3) := by decide +kernel
theorem dX1_badColour_9 : decode cX1_badColour 9 = .ok (.iconst 1, 1) := by decide +kernel
theorem dX1_badColour_10 : decode cX1_badColour 10 = .ok (.goto 4, 3) := by decide +kernel
theorem dX1_badColour_13 : decode cX1_badColour 13 = .ok (.iconst 0, 1) := by decide +kernel
theorem dX1_badColour_14 : decode cX1_badColour 14 = .ok (.ireturn, 1) := by decide +kernel
theorem dX1_paint_0 : decode cX1_paint 0 = .ok (.aload_n 0, 1) := by decide +kernel
theorem dX1_paint_1 : decode cX1_paint 1 = .ok (.iload_n 1, 1) := by decide +kernel
theorem dX1_paint_2 : decode cX1_paint 2 = .ok (.invokevirtual 25, 3) := by decide +kernel
theorem dX1_paint_5 : decode cX1_paint 5 = .ok (.ifCond .eq 5, 3) := by decide +kernel
theorem dX1_paint_8 : decode cX1_paint 8 = .ok (.iconst (-1), 1) := by decide +kernel
theorem dX1_paint_9 : decode cX1_paint 9 = .ok (.ireturn, 1) := by decide +kernel
theorem dX1_paint_10 : decode cX1_paint 10 = .ok (.aload_n 0, 1) := by decide +kernel
theorem dX1_paint_11 : decode cX1_paint 11 = .ok (.iload_n 2, 1) := by decide +kernel
theorem dX1_paint_12 : decode cX1_paint 12 = .ok (.invokevirtual 29, 3) := by decide +kernel
theorem dX1_paint_15 : decode cX1_paint 15 = .ok (.ifCond .eq 6, 3) := by decide +kernel
theorem dX1_paint_18 : decode cX1_paint 18 = .ok (.bipush (-2), 2) := by decide +kernel
theorem dX1_paint_20 : decode cX1_paint 20 = .ok (.ireturn, 1) := by decide +kernel
theorem dX1_paint_21 : decode cX1_paint 21 = .ok (.aload_n 0, 1) := by decide +kernel
theorem dX1_paint_22 : decode cX1_paint 22 = .ok (.getfield 13, 3) := by decide +kernel
theorem dX1_paint_25 : decode cX1_paint 25 = .ok (.iload_n 1, 1) := by decide +kernel
theorem dX1_paint_26 : decode cX1_paint 26 = .ok (.iaload, 1) := by decide +kernel
theorem dX1_paint_27 : decode cX1_paint 27 = .ok (.istore_n 3, 1) := by decide +kernel
theorem dX1_paint_28 : decode cX1_paint 28 = .ok (.aload_n 0, 1) := by decide +kernel
theorem dX1_paint_29 : decode cX1_paint 29 = .ok (.getfield 13, 3) := by decide +kernel
theorem dX1_paint_32 : decode cX1_paint 32 = .ok (.iload_n 1, 1) := by decide +kernel
theorem dX1_paint_33 : decode cX1_paint 33 = .ok (.iload_n 2, 1) := by decide +kernel
theorem dX1_paint_34 : decode cX1_paint 34 = .ok (.iastore, 1) := by decide +kernel
theorem dX1_paint_35 : decode cX1_paint 35 = .ok (.aload_n 0, 1) := by decide +kernel
theorem dX1_paint_36 : decode cX1_paint 36 = .ok (.iconst 0, 1) := by decide +kernel
theorem dX1_paint_37 : decode cX1_paint 37 = .ok (.putfield 32, 3) := by decide +kernel
theorem dX1_paint_40 : decode cX1_paint 40 = .ok (.iload_n 3, 1) := by decide +kernel
theorem dX1_paint_41 : decode cX1_paint 41 = .ok (.ireturn, 1) := by decide +kernel
theorem dX1_hand_0 : decode cX1_hand 0 = .ok (.aload_n 0, 1) := by decide +kernel
theorem dX1_hand_1 : decode cX1_hand 1 = .ok (.iload_n 1, 1) := by decide +kernel
theorem dX1_hand_2 : decode cX1_hand 2 = .ok (.invokevirtual 25, 3) := by decide +kernel
theorem dX1_hand_5 : decode cX1_hand 5 = .ok (.ifCond .eq 5, 3) := by decide +kernel
theorem dX1_hand_8 : decode cX1_hand 8 = .ok (.iconst (-1), 1) := by decide +kernel
theorem dX1_hand_9 : decode cX1_hand 9 = .ok (.ireturn, 1) := by decide +kernel
theorem dX1_hand_10 : decode cX1_hand 10 = .ok (.aload_n 0, 1) := by decide +kernel
theorem dX1_hand_11 : decode cX1_hand 11 = .ok (.getfield 7, 3) := by decide +kernel
theorem dX1_hand_14 : decode cX1_hand 14 = .ok (.iload_n 1, 1) := by decide +kernel
theorem dX1_hand_15 : decode cX1_hand 15 = .ok (.iconst 1, 1) := by decide +kernel
theorem dX1_hand_16 : decode cX1_hand 16 = .ok (.aload_n 0, 1) := by decide +kernel
theorem dX1_hand_17 : decode cX1_hand 17 = .ok (.getfield 7, 3) := by decide +kernel
theorem dX1_hand_20 : decode cX1_hand 20 = .ok (.iload_n 1, 1) := by decide +kernel
theorem dX1_hand_21 : decode cX1_hand 21 = .ok (.iaload, 1) := by decide +kernel
theorem dX1_hand_22 : decode cX1_hand 22 = .ok (.isub, 1) := by decide +kernel
theorem dX1_hand_23 : decode cX1_hand 23 = .ok (.iastore, 1) := by decide +kernel
theorem dX1_hand_24 : decode cX1_hand 24 = .ok (.aload_n 0, 1) := by decide +kernel
theorem dX1_hand_25 : decode cX1_hand 25 = .ok (.iconst 0, 1) := by decide +kernel
theorem dX1_hand_26 : decode cX1_hand 26 = .ok (.putfield 32, 3) := by decide +kernel
theorem dX1_hand_29 : decode cX1_hand 29 = .ok (.aload_n 0, 1) := by decide +kernel
theorem dX1_hand_30 : decode cX1_hand 30 = .ok (.getfield 7, 3) := by decide +kernel
theorem dX1_hand_33 : decode cX1_hand 33 = .ok (.iload_n 1, 1) := by decide +kernel
theorem dX1_hand_34 : decode cX1_hand 34 = .ok (.iaload, 1) := by decide +kernel
theorem dX1_hand_35 : decode cX1_hand 35 = .ok (.ireturn, 1) := by decide +kernel
theorem dX1_mirror_0 : decode cX1_mirror 0 = .ok (.iconst 0, 1) := by decide +kernel
theorem dX1_mirror_1 : decode cX1_mirror 1 = .ok (.istore_n 1, 1) := by decide +kernel
theorem dX1_mirror_2 : decode cX1_mirror 2 = .ok (.iload_n 1, 1) := by decide +kernel
theorem dX1_mirror_3 : decode cX1_mirror 3 = .ok (.bipush 8, 2) := by decide +kernel
theorem dX1_mirror_5 : decode cX1_mirror 5 = .ok (.if_icmp .ge 51, 3) := by decide +kernel
theorem dX1_mirror_8 : decode cX1_mirror 8 = .ok (.aload_n 0, 1) := by decide +kernel
theorem dX1_mirror_9 : decode cX1_mirror 9 = .ok (.getfield 7, 3) := by decide +kernel
theorem dX1_mirror_12 : decode cX1_mirror 12 = .ok (.iload_n 1, 1) := by decide +kernel
theorem dX1_mirror_13 : decode cX1_mirror 13 = .ok (.iconst 1, 1) := by decide +kernel
theorem dX1_mirror_14 : decode cX1_mirror 14 = .ok (.aload_n 0, 1) := by decide +kernel
theorem dX1_mirror_15 : decode cX1_mirror 15 = .ok (.getfield 7, 3) := by decide +kernel
theorem dX1_mirror_18 : decode cX1_mirror 18 = .ok (.iload_n 1, 1) := by decide +kernel
theorem dX1_mirror_19 : decode cX1_mirror 19 = .ok (.iaload, 1) := by decide +kernel
theorem dX1_mirror_20 : decode cX1_mirror 20 = .ok (.isub, 1) := by decide +kernel
theorem dX1_mirror_21 : decode cX1_mirror 21 = .ok (.iastore, 1) := by decide +kernel
theorem dX1_mirror_22 : decode cX1_mirror 22 = .ok (.aload_n 0, 1) := by decide +kernel
theorem dX1_mirror_23 : decode cX1_mirror 23 = .ok (.getfield 13, 3) := by decide +kernel
theorem dX1_mirror_26 : decode cX1_mirror 26 = .ok (.iload_n 1, 1) := by decide +kernel
theorem dX1_mirror_27 : decode cX1_mirror 27 = .ok (.aload_n 0, 1) := by decide +kernel
theorem dX1_mirror_28 : decode cX1_mirror 28 = .ok (.getfield 13, 3) := by decide +kernel
theorem dX1_mirror_31 : decode cX1_mirror 31 = .ok (.iload_n 1, 1) := by decide +kernel
theorem dX1_mirror_32 : decode cX1_mirror 32 = .ok (.iaload, 1) := by decide +kernel
theorem dX1_mirror_33 : decode cX1_mirror 33 = .ok (.iconst 5, 1) := by decide +kernel
theorem dX1_mirror_34 : decode cX1_mirror 34 = .ok (.if_icmp .ne 7, 3) := by decide +kernel
theorem dX1_mirror_37 : decode cX1_mirror 37 = .ok (.iconst 0, 1) := by decide +kernel
theorem dX1_mirror_38 : decode cX1_mirror 38 = .ok (.goto 11, 3) := by decide +kernel
theorem dX1_mirror_41 : decode cX1_mirror 41 = .ok (.aload_n 0, 1) := by decide +kernel
theorem dX1_mirror_42 : decode cX1_mirror 42 = .ok (.getfield 13, 3) := by decide +kernel
theorem dX1_mirror_45 : decode cX1_mirror 45 = .ok (.iload_n 1, 1) := by decide +kernel
theorem dX1_mirror_46 : decode cX1_mirror 46 = .ok (.iaload, 1) := by decide +kernel
theorem dX1_mirror_47 : decode cX1_mirror 47 = .ok (.iconst 1, 1) := by decide +kernel
theorem dX1_mirror_48 : decode cX1_mirror 48 = .ok (.iadd, 1) := by decide +kernel
theorem dX1_mirror_49 : decode cX1_mirror 49 = .ok (.iastore, 1) := by decide +kernel
theorem dX1_mirror_50 : decode cX1_mirror 50 = .ok (.iinc 1 1, 3) := by decide +kernel
theorem dX1_mirror_53 : decode cX1_mirror 53 = .ok (.goto (-51), 3) := by decide +kernel
theorem dX1_mirror_56 : decode cX1_mirror 56 = .ok (.aload_n 0, 1) := by decide +kernel
theorem dX1_mirror_57 : decode cX1_mirror 57 = .ok (.iconst 0, 1) := by decide +kernel
theorem dX1_mirror_58 : decode cX1_mirror 58 = .ok (.putfield 32, 3) := by decide +kernel
theorem dX1_mirror_61 : decode cX1_mirror 61 = .ok (.return_, 1) := by decide +kernel
theorem dX1_winner_0 : decode cX1_winner 0 = .ok (.aload_n 0, 1) := by decide +kernel
theorem dX1_winner_1 : decode cX1_winner 1 = .ok (.iload_n 1, 1) := by decide +kernel
theorem dX1_winner_2 : decode cX1_winner 2 = .ok (.invokevirtual 25, 3) := by decide +kernel
theorem dX1_winner_5 : decode cX1_winner 5 = .ok (.ifCond .eq 5, 3) := by decide +kernel
theorem dX1_winner_8 : decode cX1_winner 8 = .ok (.iconst (-1), 1) := by decide +kernel
theorem dX1_winner_9 : decode cX1_winner 9 = .ok (.ireturn, 1) := by decide +kernel
theorem dX1_winner_10 : decode cX1_winner 10 = .ok (.aload_n 0, 1) := by decide +kernel
theorem dX1_winner_11 : decode cX1_winner 11 = .ok (.invokevirtual 44, 3) := by decide +kernel
theorem dX1_winner_14 : decode cX1_winner 14 = .ok (.iload_n 1, 1) := by decide +kernel
theorem dX1_winner_15 : decode cX1_winner 15 = .ok (.ishr, 1) := by decide +kernel
theorem dX1_winner_16 : decode cX1_winner 16 = .ok (.iconst 1, 1) := by decide +kernel
theorem dX1_winner_17 : decode cX1_winner 17 = .ok (.iand, 1) := by decide +kernel
theorem dX1_winner_18 : decode cX1_winner 18 = .ok (.iconst 1, 1) := by decide +kernel
theorem dX1_winner_19 : decode cX1_winner 19 = .ok (.if_icmp .ne 7, 3) := by decide +kernel
theorem dX1_winner_22 : decode cX1_winner 22 = .ok (.iconst 0, 1) := by decide +kernel
theorem dX1_winner_23 : decode cX1_winner 23 = .ok (.goto 4, 3) := by decide +kernel
theorem dX1_winner_26 : decode cX1_winner 26 = .ok (.iconst 1, 1) := by decide +kernel
theorem dX1_winner_27 : decode cX1_winner 27 = .ok (.ireturn, 1) := by decide +kernel
theorem dX1_region_0 : decode cX1_region 0 = .ok (.aload_n 0, 1) := by decide +kernel
theorem dX1_region_1 : decode cX1_region 1 = .ok (.getfield 32, 3) := by decide +kernel
theorem dX1_region_4 : decode cX1_region 4 = .ok (.ifCond .ne 16, 3) := by decide +kernel
theorem dX1_region_7 : decode cX1_region 7 = .ok (.aload_n 0, 1) := by decide +kernel
theorem dX1_region_8 : decode cX1_region 8 = .ok (.iconst 1, 1) := by decide +kernel
theorem dX1_region_9 : decode cX1_region 9 = .ok (.putfield 32, 3) := by decide +kernel
theorem dX1_region_12 : decode cX1_region 12 = .ok (.aload_n 0, 1) := by decide +kernel
theorem dX1_region_13 : decode cX1_region 13 = .ok (.aload_n 0, 1) := by decide +kernel
theorem dX1_region_14 : decode cX1_region 14 = .ok (.invokevirtual 48, 3) := by decide +kernel
theorem dX1_region_17 : decode cX1_region 17 = .ok (.putfield 51, 3) := by decide +kernel
theorem dX1_region_20 : decode cX1_region 20 = .ok (.aload_n 0, 1) := by decide +kernel
theorem dX1_region_21 : decode cX1_region 21 = .ok (.getfield 51, 3) := by decide +kernel
theorem dX1_region_24 : decode cX1_region 24 = .ok (.ireturn, 1) := by decide +kernel
theorem dX1_wonBy0_0 : decode cX1_wonBy0 0 = .ok (.iconst 0, 1) := by decide +kernel
theorem dX1_wonBy0_1 : decode cX1_wonBy0 1 = .ok (.istore_n 1, 1) := by decide +kernel
theorem dX1_wonBy0_2 : decode cX1_wonBy0 2 = .ok (.iconst 0, 1) := by decide +kernel
theorem dX1_wonBy0_3 : decode cX1_wonBy0 3 = .ok (.istore_n 2, 1) := by decide +kernel
theorem dX1_wonBy0_4 : decode cX1_wonBy0 4 = .ok (.iload_n 2, 1) := by decide +kernel
theorem dX1_wonBy0_5 : decode cX1_wonBy0 5 = .ok (.bipush 8, 2) := by decide +kernel
theorem dX1_wonBy0_7 : decode cX1_wonBy0 7 = .ok (.if_icmp .ge 24, 3) := by decide +kernel
theorem dX1_wonBy0_10 : decode cX1_wonBy0 10 = .ok (.aload_n 0, 1) := by decide +kernel
theorem dX1_wonBy0_11 : decode cX1_wonBy0 11 = .ok (.getfield 7, 3) := by decide +kernel
theorem dX1_wonBy0_14 : decode cX1_wonBy0 14 = .ok (.iload_n 2, 1) := by decide +kernel
theorem dX1_wonBy0_15 : decode cX1_wonBy0 15 = .ok (.iaload, 1) := by decide +kernel
theorem dX1_wonBy0_16 : decode cX1_wonBy0 16 = .ok (.ifCond .ne 9, 3) := by decide +kernel
theorem dX1_wonBy0_19 : decode cX1_wonBy0 19 = .ok (.iload_n 1, 1) := by decide +kernel
theorem dX1_wonBy0_20 : decode cX1_wonBy0 20 = .ok (.iconst 1, 1) := by decide +kernel
theorem dX1_wonBy0_21 : decode cX1_wonBy0 21 = .ok (.iload_n 2, 1) := by decide +kernel
theorem dX1_wonBy0_22 : decode cX1_wonBy0 22 = .ok (.ishl, 1) := by decide +kernel
theorem dX1_wonBy0_23 : decode cX1_wonBy0 23 = .ok (.ior, 1) := by decide +kernel
theorem dX1_wonBy0_24 : decode cX1_wonBy0 24 = .ok (.istore_n 1, 1) := by decide +kernel
theorem dX1_wonBy0_25 : decode cX1_wonBy0 25 = .ok (.iinc 2 1, 3) := by decide +kernel
theorem dX1_wonBy0_28 : decode cX1_wonBy0 28 = .ok (.goto (-24), 3) := by decide +kernel
theorem dX1_wonBy0_31 : decode cX1_wonBy0 31 = .ok (.iconst 0, 1) := by decide +kernel
theorem dX1_wonBy0_32 : decode cX1_wonBy0 32 = .ok (.istore_n 2, 1) := by decide +kernel
theorem dX1_wonBy0_33 : decode cX1_wonBy0 33 = .ok (.iconst 0, 1) := by decide +kernel
theorem dX1_wonBy0_34 : decode cX1_wonBy0 34 = .ok (.istore_n 3, 1) := by decide +kernel
theorem dX1_wonBy0_35 : decode cX1_wonBy0 35 = .ok (.iload_n 3, 1) := by decide +kernel
theorem dX1_wonBy0_36 : decode cX1_wonBy0 36 = .ok (.sipush 256, 3) := by decide +kernel
theorem dX1_wonBy0_39 : decode cX1_wonBy0 39 = .ok (.if_icmp .ge 30, 3) := by decide +kernel
theorem dX1_wonBy0_42 : decode cX1_wonBy0 42 = .ok (.iload_n 3, 1) := by decide +kernel
theorem dX1_wonBy0_43 : decode cX1_wonBy0 43 = .ok (.iload_n 1, 1) := by decide +kernel
theorem dX1_wonBy0_44 : decode cX1_wonBy0 44 = .ok (.iconst (-1), 1) := by decide +kernel
theorem dX1_wonBy0_45 : decode cX1_wonBy0 45 = .ok (.ixor, 1) := by decide +kernel
theorem dX1_wonBy0_46 : decode cX1_wonBy0 46 = .ok (.iand, 1) := by decide +kernel
theorem dX1_wonBy0_47 : decode cX1_wonBy0 47 = .ok (.ifCond .ne 16, 3) := by decide +kernel
theorem dX1_wonBy0_50 : decode cX1_wonBy0 50 = .ok (.aload_n 0, 1) := by decide +kernel
theorem dX1_wonBy0_51 : decode cX1_wonBy0 51 = .ok (.iconst 0, 1) := by decide +kernel
theorem dX1_wonBy0_52 : decode cX1_wonBy0 52 = .ok (.iload_n 3, 1) := by decide +kernel
theorem dX1_wonBy0_53 : decode cX1_wonBy0 53 = .ok (.invokevirtual 40, 3) := by decide +kernel
theorem dX1_wonBy0_56 : decode cX1_wonBy0 56 = .ok (.istore 4, 2) := by decide +kernel
theorem dX1_wonBy0_58 : decode cX1_wonBy0 58 = .ok (.iload_n 2, 1) := by decide +kernel
theorem dX1_wonBy0_59 : decode cX1_wonBy0 59 = .ok (.iload 4, 2) := by decide +kernel
theorem dX1_wonBy0_61 : decode cX1_wonBy0 61 = .ok (.ior, 1) := by decide +kernel
theorem dX1_wonBy0_62 : decode cX1_wonBy0 62 = .ok (.istore_n 2, 1) := by decide +kernel
theorem dX1_wonBy0_63 : decode cX1_wonBy0 63 = .ok (.iinc 3 1, 3) := by decide +kernel
theorem dX1_wonBy0_66 : decode cX1_wonBy0 66 = .ok (.goto (-31), 3) := by decide +kernel
theorem dX1_wonBy0_69 : decode cX1_wonBy0 69 = .ok (.iload_n 2, 1) := by decide +kernel
theorem dX1_wonBy0_70 : decode cX1_wonBy0 70 = .ok (.ireturn, 1) := by decide +kernel
theorem dX1_plan_0 : decode cX1_plan 0 = .ok (.iconst 0, 1) := by decide +kernel
theorem dX1_plan_1 : decode cX1_plan 1 = .ok (.istore_n 3, 1) := by decide +kernel
theorem dX1_plan_2 : decode cX1_plan 2 = .ok (.iconst 1, 1) := by decide +kernel
theorem dX1_plan_3 : decode cX1_plan 3 = .ok (.iload_n 1, 1) := by decide +kernel
theorem dX1_plan_4 : decode cX1_plan 4 = .ok (.isub, 1) := by decide +kernel
theorem dX1_plan_5 : decode cX1_plan 5 = .ok (.istore 4, 2) := by decide +kernel
theorem dX1_plan_7 : decode cX1_plan 7 = .ok (.iload 4, 2) := by decide +kernel
theorem dX1_plan_9 : decode cX1_plan 9 = .ok (.bipush 6, 2) := by decide +kernel
theorem dX1_plan_11 : decode cX1_plan 11 = .ok (.if_icmp .ge 71, 3) := by decide +kernel
theorem dX1_plan_14 : decode cX1_plan 14 = .ok (.aload_n 0, 1) := by decide +kernel
theorem dX1_plan_15 : decode cX1_plan 15 = .ok (.iload_n 1, 1) := by decide +kernel
theorem dX1_plan_16 : decode cX1_plan 16 = .ok (.iload_n 2, 1) := by decide +kernel
theorem dX1_plan_17 : decode cX1_plan 17 = .ok (.iload 4, 2) := by decide +kernel
theorem dX1_plan_19 : decode cX1_plan 19 = .ok (.invokevirtual 36, 3) := by decide +kernel
theorem dX1_plan_22 : decode cX1_plan 22 = .ok (.iconst 0, 1) := by decide +kernel
theorem dX1_plan_23 : decode cX1_plan 23 = .ok (.istore 5, 2) := by decide +kernel
theorem dX1_plan_25 : decode cX1_plan 25 = .ok (.iload 5, 2) := by decide +kernel
theorem dX1_plan_27 : decode cX1_plan 27 = .ok (.bipush 8, 2) := by decide +kernel
theorem dX1_plan_29 : decode cX1_plan 29 = .ok (.if_icmp .ge 44, 3) := by decide +kernel
theorem dX1_plan_32 : decode cX1_plan 32 = .ok (.aload_n 0, 1) := by decide +kernel
theorem dX1_plan_33 : decode cX1_plan 33 = .ok (.getfield 13, 3) := by decide +kernel
theorem dX1_plan_36 : decode cX1_plan 36 = .ok (.iload 5, 2) := by decide +kernel
theorem dX1_plan_38 : decode cX1_plan 38 = .ok (.iaload, 1) := by decide +kernel
theorem dX1_plan_39 : decode cX1_plan 39 = .ok (.iload 4, 2) := by decide +kernel
theorem dX1_plan_41 : decode cX1_plan 41 = .ok (.if_icmp .ne 26, 3) := by decide +kernel
theorem dX1_plan_44 : decode cX1_plan 44 = .ok (.aload_n 0, 1) := by decide +kernel
theorem dX1_plan_45 : decode cX1_plan 45 = .ok (.getfield 22, 3) := by decide +kernel
theorem dX1_plan_48 : decode cX1_plan 48 = .ok (.iload 5, 2) := by decide +kernel
theorem dX1_plan_50 : decode cX1_plan 50 = .ok (.iaload, 1) := by decide +kernel
theorem dX1_plan_51 : decode cX1_plan 51 = .ok (.iload 5, 2) := by decide +kernel
theorem dX1_plan_53 : decode cX1_plan 53 = .ok (.ishr, 1) := by decide +kernel
theorem dX1_plan_54 : decode cX1_plan 54 = .ok (.iconst 1, 1) := by decide +kernel
theorem dX1_plan_55 : decode cX1_plan 55 = .ok (.iand, 1) := by decide +kernel
theorem dX1_plan_56 : decode cX1_plan 56 = .ok (.iconst 1, 1) := by decide +kernel
theorem dX1_plan_57 : decode cX1_plan 57 = .ok (.if_icmp .ne 10, 3) := by decide +kernel
theorem dX1_plan_60 : decode cX1_plan 60 = .ok (.iload_n 3, 1) := by decide +kernel
theorem dX1_plan_61 : decode cX1_plan 61 = .ok (.iconst 1, 1) := by decide +kernel
theorem dX1_plan_62 : decode cX1_plan 62 = .ok (.iload 5, 2) := by decide +kernel
theorem dX1_plan_64 : decode cX1_plan 64 = .ok (.ishl, 1) := by decide +kernel
theorem dX1_plan_65 : decode cX1_plan 65 = .ok (.ior, 1) := by decide +kernel
theorem dX1_plan_66 : decode cX1_plan 66 = .ok (.istore_n 3, 1) := by decide +kernel
theorem dX1_plan_67 : decode cX1_plan 67 = .ok (.iinc 5 1, 3) := by decide +kernel
theorem dX1_plan_70 : decode cX1_plan 70 = .ok (.goto (-45), 3) := by decide +kernel
theorem dX1_plan_73 : decode cX1_plan 73 = .ok (.iload 4, 2) := by decide +kernel
theorem dX1_plan_75 : decode cX1_plan 75 = .ok (.iconst 2, 1) := by decide +kernel
theorem dX1_plan_76 : decode cX1_plan 76 = .ok (.iadd, 1) := by decide +kernel
theorem dX1_plan_77 : decode cX1_plan 77 = .ok (.istore 4, 2) := by decide +kernel
theorem dX1_plan_79 : decode cX1_plan 79 = .ok (.goto (-72), 3) := by decide +kernel
theorem dX1_plan_82 : decode cX1_plan 82 = .ok (.aload_n 0, 1) := by decide +kernel
theorem dX1_plan_83 : decode cX1_plan 83 = .ok (.iload_n 1, 1) := by decide +kernel
theorem dX1_plan_84 : decode cX1_plan 84 = .ok (.iload_n 2, 1) := by decide +kernel
theorem dX1_plan_85 : decode cX1_plan 85 = .ok (.iconst 5, 1) := by decide +kernel
theorem dX1_plan_86 : decode cX1_plan 86 = .ok (.invokevirtual 36, 3) := by decide +kernel
theorem dX1_plan_89 : decode cX1_plan 89 = .ok (.iconst 0, 1) := by decide +kernel
theorem dX1_plan_90 : decode cX1_plan 90 = .ok (.istore 4, 2) := by decide +kernel
theorem dX1_plan_92 : decode cX1_plan 92 = .ok (.iconst 0, 1) := by decide +kernel
theorem dX1_plan_93 : decode cX1_plan 93 = .ok (.istore 5, 2) := by decide +kernel
theorem dX1_plan_95 : decode cX1_plan 95 = .ok (.iload 5, 2) := by decide +kernel
theorem dX1_plan_97 : decode cX1_plan 97 = .ok (.bipush 8, 2) := by decide +kernel
theorem dX1_plan_99 : decode cX1_plan 99 = .ok (.if_icmp .ge 39, 3) := by decide +kernel
theorem dX1_plan_102 : decode cX1_plan 102 = .ok (.iload_n 3, 1) := by decide +kernel
theorem dX1_plan_103 : decode cX1_plan 103 = .ok (.iload 5, 2) := by decide +kernel
theorem dX1_plan_105 : decode cX1_plan 105 = .ok (.ishr, 1) := by decide +kernel
theorem dX1_plan_106 : decode cX1_plan 106 = .ok (.iconst 1, 1) := by decide +kernel
theorem dX1_plan_107 : decode cX1_plan 107 = .ok (.iand, 1) := by decide +kernel
theorem dX1_plan_108 : decode cX1_plan 108 = .ok (.ifCond .ne 24, 3) := by decide +kernel
theorem dX1_plan_111 : decode cX1_plan 111 = .ok (.aload_n 0, 1) := by decide +kernel
theorem dX1_plan_112 : decode cX1_plan 112 = .ok (.getfield 22, 3) := by decide +kernel
theorem dX1_plan_115 : decode cX1_plan 115 = .ok (.iload 5, 2) := by decide +kernel
theorem dX1_plan_117 : decode cX1_plan 117 = .ok (.iaload, 1) := by decide +kernel
theorem dX1_plan_118 : decode cX1_plan 118 = .ok (.iload_n 3, 1) := by decide +kernel
theorem dX1_plan_119 : decode cX1_plan 119 = .ok (.iand, 1) := by decide +kernel
theorem dX1_plan_120 : decode cX1_plan 120 = .ok (.ifCond .ne 12, 3) := by decide +kernel
theorem dX1_plan_123 : decode cX1_plan 123 = .ok (.iload 4, 2) := by decide +kernel
theorem dX1_plan_125 : decode cX1_plan 125 = .ok (.iconst 1, 1) := by decide +kernel
theorem dX1_plan_126 : decode cX1_plan 126 = .ok (.iload 5, 2) := by decide +kernel
theorem dX1_plan_128 : decode cX1_plan 128 = .ok (.ishl, 1) := by decide +kernel
theorem dX1_plan_129 : decode cX1_plan 129 = .ok (.ior, 1) := by decide +kernel
theorem dX1_plan_130 : decode cX1_plan 130 = .ok (.istore 4, 2) := by decide +kernel
theorem dX1_plan_132 : decode cX1_plan 132 = .ok (.iinc 5 1, 3) := by decide +kernel
theorem dX1_plan_135 : decode cX1_plan 135 = .ok (.goto (-40), 3) := by decide +kernel
theorem dX1_plan_138 : decode cX1_plan 138 = .ok (.iload 4, 2) := by decide +kernel
theorem dX1_plan_140 : decode cX1_plan 140 = .ok (.ireturn, 1) := by decide +kernel
end
section
/-! decode rows of X1 -/
set_option maxRecDepth 100000
theorem dX1_close_0 : decode cX1_close 0 = .ok (.iconst 0, 1) := by decide +kernel
theorem dX1_close_1 : decode cX1_close 1 = .ok (.istore 4, 2) := by decide +kernel
theorem dX1_close_3 : decode cX1_close 3 = .ok (.iload 4, 2) := by decide +kernel
theorem dX1_close_5 : decode cX1_close 5 = .ok (.bipush 8, 2) := by decide +kernel
theorem dX1_close_7 : decode cX1_close 7 = .ok (.if_icmp .ge 149, 3) := by decide +kernel
theorem dX1_close_10 : decode cX1_close 10 = .ok (.iconst 1, 1) := by decide +kernel
theorem dX1_close_11 : decode cX1_close 11 = .ok (.aload_n 0, 1) := by decide +kernel
theorem dX1_close_12 : decode cX1_close 12 = .ok (.getfield 16, 3) := by decide +kernel
theorem dX1_close_15 : decode cX1_close 15 = .ok (.iload 4, 2) := by decide +kernel
theorem dX1_close_17 : decode cX1_close 17 = .ok (.iaload, 1) := by decide +kernel
theorem dX1_close_18 : decode cX1_close 18 = .ok (.ishl, 1) := by decide +kernel
theorem dX1_close_19 : decode cX1_close 19 = .ok (.iconst 1, 1) := by decide +kernel
theorem dX1_close_20 : decode cX1_close 20 = .ok (.aload_n 0, 1) := by decide +kernel
theorem dX1_close_21 : decode cX1_close 21 = .ok (.getfield 19, 3) := by decide +kernel
theorem dX1_close_24 : decode cX1_close 24 = .ok (.iload 4, 2) := by decide +kernel
theorem dX1_close_26 : decode cX1_close 26 = .ok (.iaload, 1) := by decide +kernel
theorem dX1_close_27 : decode cX1_close 27 = .ok (.ishl, 1) := by decide +kernel
theorem dX1_close_28 : decode cX1_close 28 = .ok (.ior, 1) := by decide +kernel
theorem dX1_close_29 : decode cX1_close 29 = .ok (.istore 5, 2) := by decide +kernel
theorem dX1_close_31 : decode cX1_close 31 = .ok (.iload_n 2, 1) := by decide +kernel
theorem dX1_close_32 : decode cX1_close 32 = .ok (.iload 4, 2) := by decide +kernel
theorem dX1_close_34 : decode cX1_close 34 = .ok (.ishr, 1) := by decide +kernel
theorem dX1_close_35 : decode cX1_close 35 = .ok (.iconst 1, 1) := by decide +kernel
theorem dX1_close_36 : decode cX1_close 36 = .ok (.iand, 1) := by decide +kernel
theorem dX1_close_37 : decode cX1_close 37 = .ok (.iconst 1, 1) := by decide +kernel
theorem dX1_close_38 : decode cX1_close 38 = .ok (.if_icmp .ne 15, 3) := by decide +kernel
theorem dX1_close_41 : decode cX1_close 41 = .ok (.iconst 1, 1) := by decide +kernel
theorem dX1_close_42 : decode cX1_close 42 = .ok (.aload_n 0, 1) := by decide +kernel
theorem dX1_close_43 : decode cX1_close 43 = .ok (.getfield 19, 3) := by decide +kernel
theorem dX1_close_46 : decode cX1_close 46 = .ok (.iload 4, 2) := by decide +kernel
theorem dX1_close_48 : decode cX1_close 48 = .ok (.iaload, 1) := by decide +kernel
theorem dX1_close_49 : decode cX1_close 49 = .ok (.ishl, 1) := by decide +kernel
theorem dX1_close_50 : decode cX1_close 50 = .ok (.goto 12, 3) := by decide +kernel
theorem dX1_close_53 : decode cX1_close 53 = .ok (.iconst 1, 1) := by decide +kernel
theorem dX1_close_54 : decode cX1_close 54 = .ok (.aload_n 0, 1) := by decide +kernel
theorem dX1_close_55 : decode cX1_close 55 = .ok (.getfield 16, 3) := by decide +kernel
theorem dX1_close_58 : decode cX1_close 58 = .ok (.iload 4, 2) := by decide +kernel
theorem dX1_close_60 : decode cX1_close 60 = .ok (.iaload, 1) := by decide +kernel
theorem dX1_close_61 : decode cX1_close 61 = .ok (.ishl, 1) := by decide +kernel
theorem dX1_close_62 : decode cX1_close 62 = .ok (.istore 6, 2) := by decide +kernel
theorem dX1_close_64 : decode cX1_close 64 = .ok (.aload_n 0, 1) := by decide +kernel
theorem dX1_close_65 : decode cX1_close 65 = .ok (.getfield 7, 3) := by decide +kernel
theorem dX1_close_68 : decode cX1_close 68 = .ok (.iload 4, 2) := by decide +kernel
theorem dX1_close_70 : decode cX1_close 70 = .ok (.iaload, 1) := by decide +kernel
theorem dX1_close_71 : decode cX1_close 71 = .ok (.iload_n 1, 1) := by decide +kernel
theorem dX1_close_72 : decode cX1_close 72 = .ok (.if_icmp .ne 8, 3) := by decide +kernel
theorem dX1_close_75 : decode cX1_close 75 = .ok (.iload 6, 2) := by decide +kernel
theorem dX1_close_77 : decode cX1_close 77 = .ok (.goto 5, 3) := by decide +kernel
theorem dX1_close_80 : decode cX1_close 80 = .ok (.iload 5, 2) := by decide +kernel
theorem dX1_close_82 : decode cX1_close 82 = .ok (.istore 7, 2) := by decide +kernel
theorem dX1_close_84 : decode cX1_close 84 = .ok (.iconst 0, 1) := by decide +kernel
theorem dX1_close_85 : decode cX1_close 85 = .ok (.istore 8, 2) := by decide +kernel
theorem dX1_close_87 : decode cX1_close 87 = .ok (.iconst 0, 1) := by decide +kernel
theorem dX1_close_88 : decode cX1_close 88 = .ok (.istore 9, 2) := by decide +kernel
theorem dX1_close_90 : decode cX1_close 90 = .ok (.iload 9, 2) := by decide +kernel
theorem dX1_close_92 : decode cX1_close 92 = .ok (.bipush 8, 2) := by decide +kernel
theorem dX1_close_94 : decode cX1_close 94 = .ok (.if_icmp .ge 29, 3) := by decide +kernel
theorem dX1_close_97 : decode cX1_close 97 = .ok (.aload_n 0, 1) := by decide +kernel
theorem dX1_close_98 : decode cX1_close 98 = .ok (.getfield 13, 3) := by decide +kernel
theorem dX1_close_101 : decode cX1_close 101 = .ok (.iload 9, 2) := by decide +kernel
theorem dX1_close_103 : decode cX1_close 103 = .ok (.iaload, 1) := by decide +kernel
theorem dX1_close_104 : decode cX1_close 104 = .ok (.iload_n 3, 1) := by decide +kernel
theorem dX1_close_105 : decode cX1_close 105 = .ok (.if_icmp .gt 12, 3) := by decide +kernel
theorem dX1_close_108 : decode cX1_close 108 = .ok (.iload 8, 2) := by decide +kernel
theorem dX1_close_110 : decode cX1_close 110 = .ok (.iconst 1, 1) := by decide +kernel
theorem dX1_close_111 : decode cX1_close 111 = .ok (.iload 9, 2) := by decide +kernel
theorem dX1_close_113 : decode cX1_close 113 = .ok (.ishl, 1) := by decide +kernel
theorem dX1_close_114 : decode cX1_close 114 = .ok (.ior, 1) := by decide +kernel
theorem dX1_close_115 : decode cX1_close 115 = .ok (.istore 8, 2) := by decide +kernel
theorem dX1_close_117 : decode cX1_close 117 = .ok (.iinc 9 1, 3) := by decide +kernel
theorem dX1_close_120 : decode cX1_close 120 = .ok (.goto (-30), 3) := by decide +kernel
theorem dX1_close_123 : decode cX1_close 123 = .ok (.aload_n 0, 1) := by decide +kernel
theorem dX1_close_124 : decode cX1_close 124 = .ok (.getfield 22, 3) := by decide +kernel
theorem dX1_close_127 : decode cX1_close 127 = .ok (.iload 4, 2) := by decide +kernel
theorem dX1_close_129 : decode cX1_close 129 = .ok (.aload_n 0, 1) := by decide +kernel
theorem dX1_close_130 : decode cX1_close 130 = .ok (.getfield 13, 3) := by decide +kernel
theorem dX1_close_133 : decode cX1_close 133 = .ok (.iload 4, 2) := by decide +kernel
theorem dX1_close_135 : decode cX1_close 135 = .ok (.iaload, 1) := by decide +kernel
theorem dX1_close_136 : decode cX1_close 136 = .ok (.iload_n 3, 1) := by decide +kernel
theorem dX1_close_137 : decode cX1_close 137 = .ok (.if_icmp .gt 11, 3) := by decide +kernel
theorem dX1_close_140 : decode cX1_close 140 = .ok (.iload 7, 2) := by decide +kernel
theorem dX1_close_142 : decode cX1_close 142 = .ok (.iload 8, 2) := by decide +kernel
theorem dX1_close_144 : decode cX1_close 144 = .ok (.iand, 1) := by decide +kernel
theorem dX1_close_145 : decode cX1_close 145 = .ok (.goto 4, 3) := by decide +kernel
theorem dX1_close_148 : decode cX1_close 148 = .ok (.iconst 0, 1) := by decide +kernel
theorem dX1_close_149 : decode cX1_close 149 = .ok (.iastore, 1) := by decide +kernel
theorem dX1_close_150 : decode cX1_close 150 = .ok (.iinc 4 1, 3) := by decide +kernel
theorem dX1_close_153 : decode cX1_close 153 = .ok (.goto (-150), 3) := by decide +kernel
theorem dX1_close_156 : decode cX1_close 156 = .ok (.iconst 0, 1) := by decide +kernel
theorem dX1_close_157 : decode cX1_close 157 = .ok (.istore 4, 2) := by decide +kernel
theorem dX1_close_159 : decode cX1_close 159 = .ok (.iload 4, 2) := by decide +kernel
theorem dX1_close_161 : decode cX1_close 161 = .ok (.bipush 8, 2) := by decide +kernel
theorem dX1_close_163 : decode cX1_close 163 = .ok (.if_icmp .ge 63, 3) := by decide +kernel
theorem dX1_close_166 : decode cX1_close 166 = .ok (.iconst 0, 1) := by decide +kernel
theorem dX1_close_167 : decode cX1_close 167 = .ok (.istore 5, 2) := by decide +kernel
theorem dX1_close_169 : decode cX1_close 169 = .ok (.iload 5, 2) := by decide +kernel
theorem dX1_close_171 : decode cX1_close 171 = .ok (.bipush 8, 2) := by decide +kernel
theorem dX1_close_173 : decode cX1_close 173 = .ok (.if_icmp .ge 47, 3) := by decide +kernel
theorem dX1_close_176 : decode cX1_close 176 = .ok (.aload_n 0, 1) := by decide +kernel
theorem dX1_close_177 : decode cX1_close 177 = .ok (.getfield 22, 3) := by decide +kernel
theorem dX1_close_180 : decode cX1_close 180 = .ok (.iload 5, 2) := by decide +kernel
theorem dX1_close_182 : decode cX1_close 182 = .ok (.iaload, 1) := by decide +kernel
theorem dX1_close_183 : decode cX1_close 183 = .ok (.iload 4, 2) := by decide +kernel
theorem dX1_close_185 : decode cX1_close 185 = .ok (.ishr, 1) := by decide +kernel
theorem dX1_close_186 : decode cX1_close 186 = .ok (.iconst 1, 1) := by decide +kernel
theorem dX1_close_187 : decode cX1_close 187 = .ok (.iand, 1) := by decide +kernel
theorem dX1_close_188 : decode cX1_close 188 = .ok (.iconst 1, 1) := by decide +kernel
theorem dX1_close_189 : decode cX1_close 189 = .ok (.if_icmp .ne 25, 3) := by decide +kernel
theorem dX1_close_192 : decode cX1_close 192 = .ok (.aload_n 0, 1) := by decide +kernel
theorem dX1_close_193 : decode cX1_close 193 = .ok (.getfield 22, 3) := by decide +kernel
theorem dX1_close_196 : decode cX1_close 196 = .ok (.iload 5, 2) := by decide +kernel
theorem dX1_close_198 : decode cX1_close 198 = .ok (.aload_n 0, 1) := by decide +kernel
theorem dX1_close_199 : decode cX1_close 199 = .ok (.getfield 22, 3) := by decide +kernel
theorem dX1_close_202 : decode cX1_close 202 = .ok (.iload 5, 2) := by decide +kernel
theorem dX1_close_204 : decode cX1_close 204 = .ok (.iaload, 1) := by decide +kernel
theorem dX1_close_205 : decode cX1_close 205 = .ok (.aload_n 0, 1) := by decide +kernel
theorem dX1_close_206 : decode cX1_close 206 = .ok (.getfield 22, 3) := by decide +kernel
theorem dX1_close_209 : decode cX1_close 209 = .ok (.iload 4, 2) := by decide +kernel
theorem dX1_close_211 : decode cX1_close 211 = .ok (.iaload, 1) := by decide +kernel
theorem dX1_close_212 : decode cX1_close 212 = .ok (.ior, 1) := by decide +kernel
theorem dX1_close_213 : decode cX1_close 213 = .ok (.iastore, 1) := by decide +kernel
theorem dX1_close_214 : decode cX1_close 214 = .ok (.iinc 5 1, 3) := by decide +kernel
theorem dX1_close_217 : decode cX1_close 217 = .ok (.goto (-48), 3) := by decide +kernel
theorem dX1_close_220 : decode cX1_close 220 = .ok (.iinc 4 1, 3) := by decide +kernel
theorem dX1_close_223 : decode cX1_close 223 = .ok (.goto (-64), 3) := by decide +kernel
theorem dX1_close_226 : decode cX1_close 226 = .ok (.return_, 1) := by decide +kernel
theorem dX1_good_0 : decode cX1_good 0 = .ok (.iload_n 1, 1) := by decide +kernel
theorem dX1_good_1 : decode cX1_good 1 = .ok (.ifCond .lt 8, 3) := by decide +kernel
theorem dX1_good_4 : decode cX1_good 4 = .ok (.iload_n 1, 1) := by decide +kernel
theorem dX1_good_5 : decode cX1_good 5 = .ok (.iconst 1, 1) := by decide +kernel
theorem dX1_good_6 : decode cX1_good 6 = .ok (.if_icmp .le 5, 3) := by decide +kernel
theorem dX1_good_9 : decode cX1_good 9 = .ok (.iconst 0, 1) := by decide +kernel
theorem dX1_good_10 : decode cX1_good 10 = .ok (.ireturn, 1) := by decide +kernel
theorem dX1_good_11 : decode cX1_good 11 = .ok (.iload_n 1, 1) := by decide +kernel
theorem dX1_good_12 : decode cX1_good 12 = .ok (.ifCond .ne 10, 3) := by decide +kernel
theorem dX1_good_15 : decode cX1_good 15 = .ok (.aload_n 0, 1) := by decide +kernel
theorem dX1_good_16 : decode cX1_good 16 = .ok (.invokevirtual 44, 3) := by decide +kernel
theorem dX1_good_19 : decode cX1_good 19 = .ok (.goto 13, 3) := by decide +kernel
theorem dX1_good_22 : decode cX1_good 22 = .ok (.sipush 255, 3) := by decide +kernel
theorem dX1_good_25 : decode cX1_good 25 = .ok (.aload_n 0, 1) := by decide +kernel
theorem dX1_good_26 : decode cX1_good 26 = .ok (.invokevirtual 44, 3) := by decide +kernel
theorem dX1_good_29 : decode cX1_good 29 = .ok (.iconst (-1), 1) := by decide +kernel
theorem dX1_good_30 : decode cX1_good 30 = .ok (.ixor, 1) := by decide +kernel
theorem dX1_good_31 : decode cX1_good 31 = .ok (.iand, 1) := by decide +kernel
theorem dX1_good_32 : decode cX1_good 32 = .ok (.istore_n 3, 1) := by decide +kernel
theorem dX1_good_33 : decode cX1_good 33 = .ok (.aload_n 0, 1) := by decide +kernel
theorem dX1_good_34 : decode cX1_good 34 = .ok (.iload_n 1, 1) := by decide +kernel
theorem dX1_good_35 : decode cX1_good 35 = .ok (.iload_n 2, 1) := by decide +kernel
theorem dX1_good_36 : decode cX1_good 36 = .ok (.invokevirtual 40, 3) := by decide +kernel
theorem dX1_good_39 : decode cX1_good 39 = .ok (.istore 4, 2) := by decide +kernel
theorem dX1_good_41 : decode cX1_good 41 = .ok (.iload_n 3, 1) := by decide +kernel
theorem dX1_good_42 : decode cX1_good 42 = .ok (.iload 4, 2) := by decide +kernel
theorem dX1_good_44 : decode cX1_good 44 = .ok (.iconst (-1), 1) := by decide +kernel
theorem dX1_good_45 : decode cX1_good 45 = .ok (.ixor, 1) := by decide +kernel
theorem dX1_good_46 : decode cX1_good 46 = .ok (.iand, 1) := by decide +kernel
theorem dX1_good_47 : decode cX1_good 47 = .ok (.ifCond .ne 7, 3) := by decide +kernel
theorem dX1_good_50 : decode cX1_good 50 = .ok (.iconst 1, 1) := by decide +kernel
theorem dX1_good_51 : decode cX1_good 51 = .ok (.goto 4, 3) := by decide +kernel
theorem dX1_good_54 : decode cX1_good 54 = .ok (.iconst 0, 1) := by decide +kernel
theorem dX1_good_55 : decode cX1_good 55 = .ok (.ireturn, 1) := by decide +kernel
theorem dX1_plans_0 : decode cX1_plans 0 = .ok (.iload_n 1, 1) := by decide +kernel
theorem dX1_plans_1 : decode cX1_plans 1 = .ok (.ifCond .lt 8, 3) := by decide +kernel
theorem dX1_plans_4 : decode cX1_plans 4 = .ok (.iload_n 1, 1) := by decide +kernel
theorem dX1_plans_5 : decode cX1_plans 5 = .ok (.iconst 1, 1) := by decide +kernel
theorem dX1_plans_6 : decode cX1_plans 6 = .ok (.if_icmp .le 6, 3) := by decide +kernel
theorem dX1_plans_9 : decode cX1_plans 9 = .ok (.bipush (-3), 2) := by decide +kernel
theorem dX1_plans_11 : decode cX1_plans 11 = .ok (.ireturn, 1) := by decide +kernel
theorem dX1_plans_12 : decode cX1_plans 12 = .ok (.iconst 0, 1) := by decide +kernel
theorem dX1_plans_13 : decode cX1_plans 13 = .ok (.istore_n 2, 1) := by decide +kernel
theorem dX1_plans_14 : decode cX1_plans 14 = .ok (.iconst 0, 1) := by decide +kernel
theorem dX1_plans_15 : decode cX1_plans 15 = .ok (.istore_n 3, 1) := by decide +kernel
theorem dX1_plans_16 : decode cX1_plans 16 = .ok (.iload_n 3, 1) := by decide +kernel
theorem dX1_plans_17 : decode cX1_plans 17 = .ok (.sipush 256, 3) := by decide +kernel
theorem dX1_plans_20 : decode cX1_plans 20 = .ok (.if_icmp .ge 21, 3) := by decide +kernel
theorem dX1_plans_23 : decode cX1_plans 23 = .ok (.aload_n 0, 1) := by decide +kernel
theorem dX1_plans_24 : decode cX1_plans 24 = .ok (.iload_n 1, 1) := by decide +kernel
theorem dX1_plans_25 : decode cX1_plans 25 = .ok (.iload_n 3, 1) := by decide +kernel
theorem dX1_plans_26 : decode cX1_plans 26 = .ok (.invokevirtual 55, 3) := by decide +kernel
theorem dX1_plans_29 : decode cX1_plans 29 = .ok (.ifCond .eq 6, 3) := by decide +kernel
theorem dX1_plans_32 : decode cX1_plans 32 = .ok (.iinc 2 1, 3) := by decide +kernel
theorem dX1_plans_35 : decode cX1_plans 35 = .ok (.iinc 3 1, 3) := by decide +kernel
theorem dX1_plans_38 : decode cX1_plans 38 = .ok (.goto (-22), 3) := by decide +kernel
theorem dX1_plans_41 : decode cX1_plans 41 = .ok (.iload_n 2, 1) := by decide +kernel
theorem dX1_plans_42 : decode cX1_plans 42 = .ok (.ireturn, 1) := by decide +kernel
theorem dX1_firstPlan_0 : decode cX1_firstPlan 0 = .ok (.iload_n 1, 1) := by decide +kernel
theorem dX1_firstPlan_1 : decode cX1_firstPlan 1 = .ok (.ifCond .lt 8, 3) := by decide +kernel
theorem dX1_firstPlan_4 : decode cX1_firstPlan 4 = .ok (.iload_n 1, 1) := by decide +kernel
theorem dX1_firstPlan_5 : decode cX1_firstPlan 5 = .ok (.iconst 1, 1) := by decide +kernel
theorem dX1_firstPlan_6 : decode cX1_firstPlan 6 = .ok (.if_icmp .le 6, 3) := by decide +kernel
theorem dX1_firstPlan_9 : decode cX1_firstPlan 9 = .ok (.bipush (-3), 2) := by decide +kernel
theorem dX1_firstPlan_11 : decode cX1_firstPlan 11 = .ok (.ireturn, 1) := by decide +kernel
theorem dX1_firstPlan_12 : decode cX1_firstPlan 12 = .ok (.iconst 0, 1) := by decide +kernel
theorem dX1_firstPlan_13 : decode cX1_firstPlan 13 = .ok (.istore_n 2, 1) := by decide +kernel
theorem dX1_firstPlan_14 : decode cX1_firstPlan 14 = .ok (.iload_n 2, 1) := by decide +kernel
theorem dX1_firstPlan_15 : decode cX1_firstPlan 15 = .ok (.sipush 256, 3) := by decide +kernel
theorem dX1_firstPlan_18 : decode cX1_firstPlan 18 = .ok (.if_icmp .ge 20, 3) := by decide +kernel
theorem dX1_firstPlan_21 : decode cX1_firstPlan 21 = .ok (.aload_n 0, 1) := by decide +kernel
theorem dX1_firstPlan_22 : decode cX1_firstPlan 22 = .ok (.iload_n 1, 1) := by decide +kernel
theorem dX1_firstPlan_23 : decode cX1_firstPlan 23 = .ok (.iload_n 2, 1) := by decide +kernel
theorem dX1_firstPlan_24 : decode cX1_firstPlan 24 = .ok (.invokevirtual 55, 3) := by decide +kernel
theorem dX1_firstPlan_27 : decode cX1_firstPlan 27 = .ok (.ifCond .eq 5, 3) := by decide +kernel
theorem dX1_firstPlan_30 : decode cX1_firstPlan 30 = .ok (.iload_n 2, 1) := by decide +kernel
theorem dX1_firstPlan_31 : decode cX1_firstPlan 31 = .ok (.ireturn, 1) := by decide +kernel
theorem dX1_firstPlan_32 : decode cX1_firstPlan 32 = .ok (.iinc 2 1, 3) := by decide +kernel
theorem dX1_firstPlan_35 : decode cX1_firstPlan 35 = .ok (.goto (-21), 3) := by decide +kernel
theorem dX1_firstPlan_38 : decode cX1_firstPlan 38 = .ok (.iconst 0, 1) := by decide +kernel
theorem dX1_firstPlan_39 : decode cX1_firstPlan 39 = .ok (.ireturn, 1) := by decide +kernel
theorem dX1_canForce_0 : decode cX1_canForce 0 = .ok (.aload_n 0, 1) := by decide +kernel
theorem dX1_canForce_1 : decode cX1_canForce 1 = .ok (.iload_n 1, 1) := by decide +kernel
theorem dX1_canForce_2 : decode cX1_canForce 2 = .ok (.invokevirtual 25, 3) := by decide +kernel
theorem dX1_canForce_5 : decode cX1_canForce 5 = .ok (.ifCond .ne 11, 3) := by decide +kernel
theorem dX1_canForce_8 : decode cX1_canForce 8 = .ok (.aload_n 0, 1) := by decide +kernel
theorem dX1_canForce_9 : decode cX1_canForce 9 = .ok (.iload_n 2, 1) := by decide +kernel
theorem dX1_canForce_10 : decode cX1_canForce 10 = .ok (.invokevirtual 25, 3) := by decide +kernel
theorem dX1_canForce_13 : decode cX1_canForce 13 = .ok (.ifCond .eq 5, 3) := by decide +kernel
theorem dX1_canForce_16 : decode cX1_canForce 16 = .ok (.iconst 0, 1) := by decide +kernel
theorem dX1_canForce_17 : decode cX1_canForce 17 = .ok (.ireturn, 1) := by decide +kernel
theorem dX1_canForce_18 : decode cX1_canForce 18 = .ok (.iconst 1, 1) := by decide +kernel
theorem dX1_canForce_19 : decode cX1_canForce 19 = .ok (.iload_n 2, 1) := by decide +kernel
theorem dX1_canForce_20 : decode cX1_canForce 20 = .ok (.ishl, 1) := by decide +kernel
theorem dX1_canForce_21 : decode cX1_canForce 21 = .ok (.istore_n 3, 1) := by decide +kernel
theorem dX1_canForce_22 : decode cX1_canForce 22 = .ok (.iconst 0, 1) := by decide +kernel
theorem dX1_canForce_23 : decode cX1_canForce 23 = .ok (.istore 4, 2) := by decide +kernel
theorem dX1_canForce_25 : decode cX1_canForce 25 = .ok (.iload 4, 2) := by decide +kernel
theorem dX1_canForce_27 : decode cX1_canForce 27 = .ok (.bipush 8, 2) := by decide +kernel
theorem dX1_canForce_29 : decode cX1_canForce 29 = .ok (.if_icmp .ge 109, 3) := by decide +kernel
theorem dX1_canForce_32 : decode cX1_canForce 32 = .ok (.iconst 0, 1) := by decide +kernel
theorem dX1_canForce_33 : decode cX1_canForce 33 = .ok (.istore 5, 2) := by decide +kernel
theorem dX1_canForce_35 : decode cX1_canForce 35 = .ok (.iload 5, 2) := by decide +kernel
theorem dX1_canForce_37 : decode cX1_canForce 37 = .ok (.bipush 8, 2) := by decide +kernel
theorem dX1_canForce_39 : decode cX1_canForce 39 = .ok (.if_icmp .ge 93, 3) := by decide +kernel
theorem dX1_canForce_42 : decode cX1_canForce 42 = .ok (.iload_n 3, 1) := by decide +kernel
theorem dX1_canForce_43 : decode cX1_canForce 43 = .ok (.aload_n 0, 1) := by decide +kernel
theorem dX1_canForce_44 : decode cX1_canForce 44 = .ok (.getfield 16, 3) := by decide +kernel
theorem dX1_canForce_47 : decode cX1_canForce 47 = .ok (.iload 5, 2) := by decide +kernel
theorem dX1_canForce_49 : decode cX1_canForce 49 = .ok (.iaload, 1) := by decide +kernel
theorem dX1_canForce_50 : decode cX1_canForce 50 = .ok (.ishr, 1) := by decide +kernel
theorem dX1_canForce_51 : decode cX1_canForce 51 = .ok (.iconst 1, 1) := by decide +kernel
theorem dX1_canForce_52 : decode cX1_canForce 52 = .ok (.iand, 1) := by decide +kernel
theorem dX1_canForce_53 : decode cX1_canForce 53 = .ok (.iconst 1, 1) := by decide +kernel
theorem dX1_canForce_54 : decode cX1_canForce 54 = .ok (.if_icmp .ne 7, 3) := by decide +kernel
theorem dX1_canForce_57 : decode cX1_canForce 57 = .ok (.iconst 1, 1) := by decide +kernel
theorem dX1_canForce_58 : decode cX1_canForce 58 = .ok (.goto 4, 3) := by decide +kernel
theorem dX1_canForce_61 : decode cX1_canForce 61 = .ok (.iconst 0, 1) := by decide +kernel
theorem dX1_canForce_62 : decode cX1_canForce 62 = .ok (.istore 6, 2) := by decide +kernel
theorem dX1_canForce_64 : decode cX1_canForce 64 = .ok (.iload_n 3, 1) := by decide +kernel
theorem dX1_canForce_65 : decode cX1_canForce 65 = .ok (.aload_n 0, 1) := by decide +kernel
theorem dX1_canForce_66 : decode cX1_canForce 66 = .ok (.getfield 19, 3) := by decide +kernel
theorem dX1_canForce_69 : decode cX1_canForce 69 = .ok (.iload 5, 2) := by decide +kernel
theorem dX1_canForce_71 : decode cX1_canForce 71 = .ok (.iaload, 1) := by decide +kernel
theorem dX1_canForce_72 : decode cX1_canForce 72 = .ok (.ishr, 1) := by decide +kernel
theorem dX1_canForce_73 : decode cX1_canForce 73 = .ok (.iconst 1, 1) := by decide +kernel
theorem dX1_canForce_74 : decode cX1_canForce 74 = .ok (.iand, 1) := by decide +kernel
theorem dX1_canForce_75 : decode cX1_canForce 75 = .ok (.iconst 1, 1) := by decide +kernel
theorem dX1_canForce_76 : decode cX1_canForce 76 = .ok (.if_icmp .ne 7, 3) := by decide +kernel
theorem dX1_canForce_79 : decode cX1_canForce 79 = .ok (.iconst 1, 1) := by decide +kernel
theorem dX1_canForce_80 : decode cX1_canForce 80 = .ok (.goto 4, 3) := by decide +kernel
theorem dX1_canForce_83 : decode cX1_canForce 83 = .ok (.iconst 0, 1) := by decide +kernel
theorem dX1_canForce_84 : decode cX1_canForce 84 = .ok (.istore 7, 2) := by decide +kernel
theorem dX1_canForce_86 : decode cX1_canForce 86 = .ok (.aload_n 0, 1) := by decide +kernel
theorem dX1_canForce_87 : decode cX1_canForce 87 = .ok (.getfield 7, 3) := by decide +kernel
theorem dX1_canForce_90 : decode cX1_canForce 90 = .ok (.iload 5, 2) := by decide +kernel
theorem dX1_canForce_92 : decode cX1_canForce 92 = .ok (.iaload, 1) := by decide +kernel
theorem dX1_canForce_93 : decode cX1_canForce 93 = .ok (.ifCond .ne 16, 3) := by decide +kernel
theorem dX1_canForce_96 : decode cX1_canForce 96 = .ok (.iload 6, 2) := by decide +kernel
theorem dX1_canForce_98 : decode cX1_canForce 98 = .ok (.ifCond .ne 21, 3) := by decide +kernel
theorem dX1_canForce_101 : decode cX1_canForce 101 = .ok (.iload 7, 2) := by decide +kernel
theorem dX1_canForce_103 : decode cX1_canForce 103 = .ok (.ifCond .eq 23, 3) := by decide +kernel
theorem dX1_canForce_106 : decode cX1_canForce 106 = .ok (.goto 13, 3) := by decide +kernel
theorem dX1_canForce_109 : decode cX1_canForce 109 = .ok (.iload 6, 2) := by decide +kernel
theorem dX1_canForce_111 : decode cX1_canForce 111 = .ok (.ifCond .eq 15, 3) := by decide +kernel
theorem dX1_canForce_114 : decode cX1_canForce 114 = .ok (.iload 7, 2) := by decide +kernel
theorem dX1_canForce_116 : decode cX1_canForce 116 = .ok (.ifCond .eq 10, 3) := by decide +kernel
theorem dX1_canForce_119 : decode cX1_canForce 119 = .ok (.iload_n 3, 1) := by decide +kernel
theorem dX1_canForce_120 : decode cX1_canForce 120 = .ok (.iconst 1, 1) := by decide +kernel
theorem dX1_canForce_121 : decode cX1_canForce 121 = .ok (.iload 5, 2) := by decide +kernel
theorem dX1_canForce_123 : decode cX1_canForce 123 = .ok (.ishl, 1) := by decide +kernel
theorem dX1_canForce_124 : decode cX1_canForce 124 = .ok (.ior, 1) := by decide +kernel
theorem dX1_canForce_125 : decode cX1_canForce 125 = .ok (.istore_n 3, 1) := by decide +kernel
theorem dX1_canForce_126 : decode cX1_canForce 126 = .ok (.iinc 5 1, 3) := by decide +kernel
theorem dX1_canForce_129 : decode cX1_canForce 129 = .ok (.goto (-94), 3) := by decide +kernel
theorem dX1_canForce_132 : decode cX1_canForce 132 = .ok (.iinc 4 1, 3) := by decide +kernel
theorem dX1_canForce_135 : decode cX1_canForce 135 = .ok (.goto (-110), 3) := by decide +kernel
theorem dX1_canForce_138 : decode cX1_canForce 138 = .ok (.iload_n 3, 1) := by decide +kernel
theorem dX1_canForce_139 : decode cX1_canForce 139 = .ok (.iload_n 1, 1) := by decide +kernel
theorem dX1_canForce_140 : decode cX1_canForce 140 = .ok (.ishr, 1) := by decide +kernel
theorem dX1_canForce_141 : decode cX1_canForce 141 = .ok (.iconst 1, 1) := by decide +kernel
theorem dX1_canForce_142 : decode cX1_canForce 142 = .ok (.iand, 1) := by decide +kernel
theorem dX1_canForce_143 : decode cX1_canForce 143 = .ok (.iconst 1, 1) := by decide +kernel
theorem dX1_canForce_144 : decode cX1_canForce 144 = .ok (.if_icmp .ne 7, 3) := by decide +kernel
theorem dX1_canForce_147 : decode cX1_canForce 147 = .ok (.iconst 1, 1) := by decide +kernel
theorem dX1_canForce_148 : decode cX1_canForce 148 = .ok (.goto 4, 3) := by decide +kernel
theorem dX1_canForce_151 : decode cX1_canForce 151 = .ok (.iconst 0, 1) := by decide +kernel
theorem dX1_canForce_152 : decode cX1_canForce 152 = .ok (.ireturn, 1) := by decide +kernel
theorem dX1_contested_0 : decode cX1_contested 0 = .ok (.aload_n 0, 1) := by decide +kernel
theorem dX1_contested_1 : decode cX1_contested 1 = .ok (.invokevirtual 44, 3) := by decide +kernel
theorem dX1_contested_4 : decode cX1_contested 4 = .ok (.istore_n 1, 1) := by decide +kernel
theorem dX1_contested_5 : decode cX1_contested 5 = .ok (.iconst 0, 1) := by decide +kernel
theorem dX1_contested_6 : decode cX1_contested 6 = .ok (.istore_n 2, 1) := by decide +kernel
theorem dX1_contested_7 : decode cX1_contested 7 = .ok (.iconst 0, 1) := by decide +kernel
theorem dX1_contested_8 : decode cX1_contested 8 = .ok (.istore_n 3, 1) := by decide +kernel
theorem dX1_contested_9 : decode cX1_contested 9 = .ok (.iload_n 3, 1) := by decide +kernel
theorem dX1_contested_10 : decode cX1_contested 10 = .ok (.bipush 8, 2) := by decide +kernel
theorem dX1_contested_12 : decode cX1_contested 12 = .ok (.if_icmp .ge 48, 3) := by decide +kernel
theorem dX1_contested_15 : decode cX1_contested 15 = .ok (.aload_n 0, 1) := by decide +kernel
theorem dX1_contested_16 : decode cX1_contested 16 = .ok (.getfield 7, 3) := by decide +kernel
theorem dX1_contested_19 : decode cX1_contested 19 = .ok (.iload_n 3, 1) := by decide +kernel
theorem dX1_contested_20 : decode cX1_contested 20 = .ok (.iconst 1, 1) := by decide +kernel
theorem dX1_contested_21 : decode cX1_contested 21 = .ok (.aload_n 0, 1) := by decide +kernel
theorem dX1_contested_22 : decode cX1_contested 22 = .ok (.getfield 7, 3) := by decide +kernel
theorem dX1_contested_25 : decode cX1_contested 25 = .ok (.iload_n 3, 1) := by decide +kernel
theorem dX1_contested_26 : decode cX1_contested 26 = .ok (.iaload, 1) := by decide +kernel
theorem dX1_contested_27 : decode cX1_contested 27 = .ok (.isub, 1) := by decide +kernel
theorem dX1_contested_28 : decode cX1_contested 28 = .ok (.iastore, 1) := by decide +kernel
theorem dX1_contested_29 : decode cX1_contested 29 = .ok (.aload_n 0, 1) := by decide +kernel
theorem dX1_contested_30 : decode cX1_contested 30 = .ok (.invokevirtual 48, 3) := by decide +kernel
theorem dX1_contested_33 : decode cX1_contested 33 = .ok (.iload_n 1, 1) := by decide +kernel
theorem dX1_contested_34 : decode cX1_contested 34 = .ok (.if_icmp .eq 6, 3) := by decide +kernel
theorem dX1_contested_37 : decode cX1_contested 37 = .ok (.iinc 2 1, 3) := by decide +kernel
theorem dX1_contested_40 : decode cX1_contested 40 = .ok (.aload_n 0, 1) := by decide +kernel
theorem dX1_contested_41 : decode cX1_contested 41 = .ok (.getfield 7, 3) := by decide +kernel
theorem dX1_contested_44 : decode cX1_contested 44 = .ok (.iload_n 3, 1) := by decide +kernel
theorem dX1_contested_45 : decode cX1_contested 45 = .ok (.iconst 1, 1) := by decide +kernel
theorem dX1_contested_46 : decode cX1_contested 46 = .ok (.aload_n 0, 1) := by decide +kernel
theorem dX1_contested_47 : decode cX1_contested 47 = .ok (.getfield 7, 3) := by decide +kernel
theorem dX1_contested_50 : decode cX1_contested 50 = .ok (.iload_n 3, 1) := by decide +kernel
theorem dX1_contested_51 : decode cX1_contested 51 = .ok (.iaload, 1) := by decide +kernel
theorem dX1_contested_52 : decode cX1_contested 52 = .ok (.isub, 1) := by decide +kernel
theorem dX1_contested_53 : decode cX1_contested 53 = .ok (.iastore, 1) := by decide +kernel
theorem dX1_contested_54 : decode cX1_contested 54 = .ok (.iinc 3 1, 3) := by decide +kernel
theorem dX1_contested_57 : decode cX1_contested 57 = .ok (.goto (-48), 3) := by decide +kernel
theorem dX1_contested_60 : decode cX1_contested 60 = .ok (.iload_n 2, 1) := by decide +kernel
theorem dX1_contested_61 : decode cX1_contested 61 = .ok (.ireturn, 1) := by decide +kernel
end
section
/-! decode rows of L -/
set_option maxRecDepth 100000
theorem dL_law_0 : decode cL_law 0 = .ok (.new 7, 3) := by decide +kernel
theorem dL_law_3 : decode cL_law 3 = .ok (.dup, 1) := by decide +kernel
theorem dL_law_4 : decode cL_law 4 = .ok (.invokespecial 9, 3) := by decide +kernel
theorem dL_law_7 : decode cL_law 7 = .ok (.astore_n 1, 1) := by decide +kernel
theorem dL_law_8 : decode cL_law 8 = .ok (.new 10, 3) := by decide +kernel
theorem dL_law_11 : decode cL_law 11 = .ok (.dup, 1) := by decide +kernel
theorem dL_law_12 : decode cL_law 12 = .ok (.invokespecial 12, 3) := by decide +kernel
theorem dL_law_15 : decode cL_law 15 = .ok (.astore_n 2, 1) := by decide +kernel
theorem dL_law_16 : decode cL_law 16 = .ok (.iconst 0, 1) := by decide +kernel
theorem dL_law_17 : decode cL_law 17 = .ok (.istore_n 3, 1) := by decide +kernel
theorem dL_law_18 : decode cL_law 18 = .ok (.iload_n 3, 1) := by decide +kernel
theorem dL_law_19 : decode cL_law 19 = .ok (.aload_n 0, 1) := by decide +kernel
theorem dL_law_20 : decode cL_law 20 = .ok (.arraylength, 1) := by decide +kernel
theorem dL_law_21 : decode cL_law 21 = .ok (.iconst 5, 1) := by decide +kernel
theorem dL_law_22 : decode cL_law 22 = .ok (.isub, 1) := by decide +kernel
theorem dL_law_23 : decode cL_law 23 = .ok (.if_icmp .gt 356, 3) := by decide +kernel
theorem dL_law_26 : decode cL_law 26 = .ok (.aload_n 0, 1) := by decide +kernel
theorem dL_law_27 : decode cL_law 27 = .ok (.iload_n 3, 1) := by decide +kernel
theorem dL_law_28 : decode cL_law 28 = .ok (.iaload, 1) := by decide +kernel
theorem dL_law_29 : decode cL_law 29 = .ok (.bipush 15, 2) := by decide +kernel
theorem dL_law_31 : decode cL_law 31 = .ok (.iand, 1) := by decide +kernel
theorem dL_law_32 : decode cL_law 32 = .ok (.tableswitch 341 0 10 #[60, 113, 146, 169, 180, 203, 216, 249, 272, 295, 328], 60) := by decide +kernel
theorem dL_law_92 : decode cL_law 92 = .ok (.aload_n 1, 1) := by decide +kernel
theorem dL_law_93 : decode cL_law 93 = .ok (.aload_n 0, 1) := by decide +kernel
theorem dL_law_94 : decode cL_law 94 = .ok (.iload_n 3, 1) := by decide +kernel
theorem dL_law_95 : decode cL_law 95 = .ok (.iconst 1, 1) := by decide +kernel
theorem dL_law_96 : decode cL_law 96 = .ok (.iadd, 1) := by decide +kernel
theorem dL_law_97 : decode cL_law 97 = .ok (.iaload, 1) := by decide +kernel
theorem dL_law_98 : decode cL_law 98 = .ok (.aload_n 0, 1) := by decide +kernel
theorem dL_law_99 : decode cL_law 99 = .ok (.iload_n 3, 1) := by decide +kernel
theorem dL_law_100 : decode cL_law 100 = .ok (.iconst 2, 1) := by decide +kernel
theorem dL_law_101 : decode cL_law 101 = .ok (.iadd, 1) := by decide +kernel
theorem dL_law_102 : decode cL_law 102 = .ok (.iaload, 1) := by decide +kernel
theorem dL_law_103 : decode cL_law 103 = .ok (.aload_n 0, 1) := by decide +kernel
theorem dL_law_104 : decode cL_law 104 = .ok (.iload_n 3, 1) := by decide +kernel
theorem dL_law_105 : decode cL_law 105 = .ok (.iconst 3, 1) := by decide +kernel
theorem dL_law_106 : decode cL_law 106 = .ok (.iadd, 1) := by decide +kernel
theorem dL_law_107 : decode cL_law 107 = .ok (.iaload, 1) := by decide +kernel
theorem dL_law_108 : decode cL_law 108 = .ok (.aload_n 0, 1) := by decide +kernel
theorem dL_law_109 : decode cL_law 109 = .ok (.iload_n 3, 1) := by decide +kernel
theorem dL_law_110 : decode cL_law 110 = .ok (.iconst 4, 1) := by decide +kernel
theorem dL_law_111 : decode cL_law 111 = .ok (.iadd, 1) := by decide +kernel
theorem dL_law_112 : decode cL_law 112 = .ok (.iaload, 1) := by decide +kernel
theorem dL_law_113 : decode cL_law 113 = .ok (.invokevirtual 13, 3) := by decide +kernel
theorem dL_law_116 : decode cL_law 116 = .ok (.aload_n 2, 1) := by decide +kernel
theorem dL_law_117 : decode cL_law 117 = .ok (.aload_n 0, 1) := by decide +kernel
theorem dL_law_118 : decode cL_law 118 = .ok (.iload_n 3, 1) := by decide +kernel
theorem dL_law_119 : decode cL_law 119 = .ok (.iconst 1, 1) := by decide +kernel
theorem dL_law_120 : decode cL_law 120 = .ok (.iadd, 1) := by decide +kernel
theorem dL_law_121 : decode cL_law 121 = .ok (.iaload, 1) := by decide +kernel
theorem dL_law_122 : decode cL_law 122 = .ok (.aload_n 0, 1) := by decide +kernel
theorem dL_law_123 : decode cL_law 123 = .ok (.iload_n 3, 1) := by decide +kernel
theorem dL_law_124 : decode cL_law 124 = .ok (.iconst 2, 1) := by decide +kernel
theorem dL_law_125 : decode cL_law 125 = .ok (.iadd, 1) := by decide +kernel
theorem dL_law_126 : decode cL_law 126 = .ok (.iaload, 1) := by decide +kernel
theorem dL_law_127 : decode cL_law 127 = .ok (.aload_n 0, 1) := by decide +kernel
theorem dL_law_128 : decode cL_law 128 = .ok (.iload_n 3, 1) := by decide +kernel
theorem dL_law_129 : decode cL_law 129 = .ok (.iconst 3, 1) := by decide +kernel
theorem dL_law_130 : decode cL_law 130 = .ok (.iadd, 1) := by decide +kernel
theorem dL_law_131 : decode cL_law 131 = .ok (.iaload, 1) := by decide +kernel
theorem dL_law_132 : decode cL_law 132 = .ok (.aload_n 0, 1) := by decide +kernel
theorem dL_law_133 : decode cL_law 133 = .ok (.iload_n 3, 1) := by decide +kernel
theorem dL_law_134 : decode cL_law 134 = .ok (.iconst 4, 1) := by decide +kernel
theorem dL_law_135 : decode cL_law 135 = .ok (.iadd, 1) := by decide +kernel
theorem dL_law_136 : decode cL_law 136 = .ok (.iaload, 1) := by decide +kernel
theorem dL_law_137 : decode cL_law 137 = .ok (.invokevirtual 17, 3) := by decide +kernel
theorem dL_law_140 : decode cL_law 140 = .ok (.if_icmp .eq 233, 3) := by decide +kernel
theorem dL_law_143 : decode cL_law 143 = .ok (.iconst 0, 1) := by decide +kernel
theorem dL_law_144 : decode cL_law 144 = .ok (.ireturn, 1) := by decide +kernel
theorem dL_law_145 : decode cL_law 145 = .ok (.aload_n 1, 1) := by decide +kernel
theorem dL_law_146 : decode cL_law 146 = .ok (.aload_n 0, 1) := by decide +kernel
theorem dL_law_147 : decode cL_law 147 = .ok (.iload_n 3, 1) := by decide +kernel
theorem dL_law_148 : decode cL_law 148 = .ok (.iconst 1, 1) := by decide +kernel
theorem dL_law_149 : decode cL_law 149 = .ok (.iadd, 1) := by decide +kernel
theorem dL_law_150 : decode cL_law 150 = .ok (.iaload, 1) := by decide +kernel
theorem dL_law_151 : decode cL_law 151 = .ok (.aload_n 0, 1) := by decide +kernel
theorem dL_law_152 : decode cL_law 152 = .ok (.iload_n 3, 1) := by decide +kernel
theorem dL_law_153 : decode cL_law 153 = .ok (.iconst 2, 1) := by decide +kernel
theorem dL_law_154 : decode cL_law 154 = .ok (.iadd, 1) := by decide +kernel
theorem dL_law_155 : decode cL_law 155 = .ok (.iaload, 1) := by decide +kernel
theorem dL_law_156 : decode cL_law 156 = .ok (.invokevirtual 18, 3) := by decide +kernel
theorem dL_law_159 : decode cL_law 159 = .ok (.aload_n 2, 1) := by decide +kernel
theorem dL_law_160 : decode cL_law 160 = .ok (.aload_n 0, 1) := by decide +kernel
theorem dL_law_161 : decode cL_law 161 = .ok (.iload_n 3, 1) := by decide +kernel
theorem dL_law_162 : decode cL_law 162 = .ok (.iconst 1, 1) := by decide +kernel
theorem dL_law_163 : decode cL_law 163 = .ok (.iadd, 1) := by decide +kernel
theorem dL_law_164 : decode cL_law 164 = .ok (.iaload, 1) := by decide +kernel
theorem dL_law_165 : decode cL_law 165 = .ok (.aload_n 0, 1) := by decide +kernel
theorem dL_law_166 : decode cL_law 166 = .ok (.iload_n 3, 1) := by decide +kernel
theorem dL_law_167 : decode cL_law 167 = .ok (.iconst 2, 1) := by decide +kernel
theorem dL_law_168 : decode cL_law 168 = .ok (.iadd, 1) := by decide +kernel
theorem dL_law_169 : decode cL_law 169 = .ok (.iaload, 1) := by decide +kernel
theorem dL_law_170 : decode cL_law 170 = .ok (.invokevirtual 22, 3) := by decide +kernel
theorem dL_law_173 : decode cL_law 173 = .ok (.if_icmp .eq 200, 3) := by decide +kernel
theorem dL_law_176 : decode cL_law 176 = .ok (.iconst 0, 1) := by decide +kernel
theorem dL_law_177 : decode cL_law 177 = .ok (.ireturn, 1) := by decide +kernel
theorem dL_law_178 : decode cL_law 178 = .ok (.aload_n 1, 1) := by decide +kernel
theorem dL_law_179 : decode cL_law 179 = .ok (.aload_n 0, 1) := by decide +kernel
theorem dL_law_180 : decode cL_law 180 = .ok (.iload_n 3, 1) := by decide +kernel
theorem dL_law_181 : decode cL_law 181 = .ok (.iconst 1, 1) := by decide +kernel
theorem dL_law_182 : decode cL_law 182 = .ok (.iadd, 1) := by decide +kernel
theorem dL_law_183 : decode cL_law 183 = .ok (.iaload, 1) := by decide +kernel
theorem dL_law_184 : decode cL_law 184 = .ok (.invokevirtual 23, 3) := by decide +kernel
theorem dL_law_187 : decode cL_law 187 = .ok (.aload_n 2, 1) := by decide +kernel
theorem dL_law_188 : decode cL_law 188 = .ok (.aload_n 0, 1) := by decide +kernel
theorem dL_law_189 : decode cL_law 189 = .ok (.iload_n 3, 1) := by decide +kernel
theorem dL_law_190 : decode cL_law 190 = .ok (.iconst 1, 1) := by decide +kernel
theorem dL_law_191 : decode cL_law 191 = .ok (.iadd, 1) := by decide +kernel
theorem dL_law_192 : decode cL_law 192 = .ok (.iaload, 1) := by decide +kernel
theorem dL_law_193 : decode cL_law 193 = .ok (.invokevirtual 27, 3) := by decide +kernel
theorem dL_law_196 : decode cL_law 196 = .ok (.if_icmp .eq 177, 3) := by decide +kernel
theorem dL_law_199 : decode cL_law 199 = .ok (.iconst 0, 1) := by decide +kernel
theorem dL_law_200 : decode cL_law 200 = .ok (.ireturn, 1) := by decide +kernel
theorem dL_law_201 : decode cL_law 201 = .ok (.aload_n 1, 1) := by decide +kernel
theorem dL_law_202 : decode cL_law 202 = .ok (.invokevirtual 28, 3) := by decide +kernel
theorem dL_law_205 : decode cL_law 205 = .ok (.aload_n 2, 1) := by decide +kernel
theorem dL_law_206 : decode cL_law 206 = .ok (.invokevirtual 31, 3) := by decide +kernel
theorem dL_law_209 : decode cL_law 209 = .ok (.goto 164, 3) := by decide +kernel
theorem dL_law_212 : decode cL_law 212 = .ok (.aload_n 1, 1) := by decide +kernel
theorem dL_law_213 : decode cL_law 213 = .ok (.aload_n 0, 1) := by decide +kernel
theorem dL_law_214 : decode cL_law 214 = .ok (.iload_n 3, 1) := by decide +kernel
theorem dL_law_215 : decode cL_law 215 = .ok (.iconst 1, 1) := by decide +kernel
theorem dL_law_216 : decode cL_law 216 = .ok (.iadd, 1) := by decide +kernel
theorem dL_law_217 : decode cL_law 217 = .ok (.iaload, 1) := by decide +kernel
theorem dL_law_218 : decode cL_law 218 = .ok (.invokevirtual 32, 3) := by decide +kernel
theorem dL_law_221 : decode cL_law 221 = .ok (.aload_n 2, 1) := by decide +kernel
theorem dL_law_222 : decode cL_law 222 = .ok (.aload_n 0, 1) := by decide +kernel
theorem dL_law_223 : decode cL_law 223 = .ok (.iload_n 3, 1) := by decide +kernel
theorem dL_law_224 : decode cL_law 224 = .ok (.iconst 1, 1) := by decide +kernel
theorem dL_law_225 : decode cL_law 225 = .ok (.iadd, 1) := by decide +kernel
theorem dL_law_226 : decode cL_law 226 = .ok (.iaload, 1) := by decide +kernel
theorem dL_law_227 : decode cL_law 227 = .ok (.invokevirtual 35, 3) := by decide +kernel
theorem dL_law_230 : decode cL_law 230 = .ok (.if_icmp .eq 143, 3) := by decide +kernel
theorem dL_law_233 : decode cL_law 233 = .ok (.iconst 0, 1) := by decide +kernel
theorem dL_law_234 : decode cL_law 234 = .ok (.ireturn, 1) := by decide +kernel
theorem dL_law_235 : decode cL_law 235 = .ok (.aload_n 1, 1) := by decide +kernel
theorem dL_law_236 : decode cL_law 236 = .ok (.invokevirtual 36, 3) := by decide +kernel
theorem dL_law_239 : decode cL_law 239 = .ok (.aload_n 2, 1) := by decide +kernel
theorem dL_law_240 : decode cL_law 240 = .ok (.invokevirtual 40, 3) := by decide +kernel
theorem dL_law_243 : decode cL_law 243 = .ok (.if_icmp .eq 130, 3) := by decide +kernel
theorem dL_law_246 : decode cL_law 246 = .ok (.iconst 0, 1) := by decide +kernel
theorem dL_law_247 : decode cL_law 247 = .ok (.ireturn, 1) := by decide +kernel
theorem dL_law_248 : decode cL_law 248 = .ok (.aload_n 1, 1) := by decide +kernel
theorem dL_law_249 : decode cL_law 249 = .ok (.aload_n 0, 1) := by decide +kernel
theorem dL_law_250 : decode cL_law 250 = .ok (.iload_n 3, 1) := by decide +kernel
theorem dL_law_251 : decode cL_law 251 = .ok (.iconst 1, 1) := by decide +kernel
theorem dL_law_252 : decode cL_law 252 = .ok (.iadd, 1) := by decide +kernel
theorem dL_law_253 : decode cL_law 253 = .ok (.iaload, 1) := by decide +kernel
theorem dL_law_254 : decode cL_law 254 = .ok (.aload_n 0, 1) := by decide +kernel
theorem dL_law_255 : decode cL_law 255 = .ok (.iload_n 3, 1) := by decide +kernel
theorem dL_law_256 : decode cL_law 256 = .ok (.iconst 2, 1) := by decide +kernel
theorem dL_law_257 : decode cL_law 257 = .ok (.iadd, 1) := by decide +kernel
theorem dL_law_258 : decode cL_law 258 = .ok (.iaload, 1) := by decide +kernel
theorem dL_law_259 : decode cL_law 259 = .ok (.invokevirtual 41, 3) := by decide +kernel
theorem dL_law_262 : decode cL_law 262 = .ok (.aload_n 2, 1) := by decide +kernel
theorem dL_law_263 : decode cL_law 263 = .ok (.aload_n 0, 1) := by decide +kernel
theorem dL_law_264 : decode cL_law 264 = .ok (.iload_n 3, 1) := by decide +kernel
theorem dL_law_265 : decode cL_law 265 = .ok (.iconst 1, 1) := by decide +kernel
theorem dL_law_266 : decode cL_law 266 = .ok (.iadd, 1) := by decide +kernel
theorem dL_law_267 : decode cL_law 267 = .ok (.iaload, 1) := by decide +kernel
theorem dL_law_268 : decode cL_law 268 = .ok (.aload_n 0, 1) := by decide +kernel
theorem dL_law_269 : decode cL_law 269 = .ok (.iload_n 3, 1) := by decide +kernel
theorem dL_law_270 : decode cL_law 270 = .ok (.iconst 2, 1) := by decide +kernel
theorem dL_law_271 : decode cL_law 271 = .ok (.iadd, 1) := by decide +kernel
theorem dL_law_272 : decode cL_law 272 = .ok (.iaload, 1) := by decide +kernel
theorem dL_law_273 : decode cL_law 273 = .ok (.invokevirtual 45, 3) := by decide +kernel
theorem dL_law_276 : decode cL_law 276 = .ok (.if_icmp .eq 97, 3) := by decide +kernel
theorem dL_law_279 : decode cL_law 279 = .ok (.iconst 0, 1) := by decide +kernel
theorem dL_law_280 : decode cL_law 280 = .ok (.ireturn, 1) := by decide +kernel
theorem dL_law_281 : decode cL_law 281 = .ok (.aload_n 1, 1) := by decide +kernel
theorem dL_law_282 : decode cL_law 282 = .ok (.aload_n 0, 1) := by decide +kernel
theorem dL_law_283 : decode cL_law 283 = .ok (.iload_n 3, 1) := by decide +kernel
theorem dL_law_284 : decode cL_law 284 = .ok (.iconst 1, 1) := by decide +kernel
theorem dL_law_285 : decode cL_law 285 = .ok (.iadd, 1) := by decide +kernel
theorem dL_law_286 : decode cL_law 286 = .ok (.iaload, 1) := by decide +kernel
theorem dL_law_287 : decode cL_law 287 = .ok (.invokevirtual 46, 3) := by decide +kernel
theorem dL_law_290 : decode cL_law 290 = .ok (.aload_n 2, 1) := by decide +kernel
theorem dL_law_291 : decode cL_law 291 = .ok (.aload_n 0, 1) := by decide +kernel
theorem dL_law_292 : decode cL_law 292 = .ok (.iload_n 3, 1) := by decide +kernel
theorem dL_law_293 : decode cL_law 293 = .ok (.iconst 1, 1) := by decide +kernel
theorem dL_law_294 : decode cL_law 294 = .ok (.iadd, 1) := by decide +kernel
theorem dL_law_295 : decode cL_law 295 = .ok (.iaload, 1) := by decide +kernel
theorem dL_law_296 : decode cL_law 296 = .ok (.invokevirtual 49, 3) := by decide +kernel
theorem dL_law_299 : decode cL_law 299 = .ok (.if_icmp .eq 74, 3) := by decide +kernel
theorem dL_law_302 : decode cL_law 302 = .ok (.iconst 0, 1) := by decide +kernel
theorem dL_law_303 : decode cL_law 303 = .ok (.ireturn, 1) := by decide +kernel
theorem dL_law_304 : decode cL_law 304 = .ok (.aload_n 1, 1) := by decide +kernel
theorem dL_law_305 : decode cL_law 305 = .ok (.aload_n 0, 1) := by decide +kernel
theorem dL_law_306 : decode cL_law 306 = .ok (.iload_n 3, 1) := by decide +kernel
theorem dL_law_307 : decode cL_law 307 = .ok (.iconst 1, 1) := by decide +kernel
theorem dL_law_308 : decode cL_law 308 = .ok (.iadd, 1) := by decide +kernel
theorem dL_law_309 : decode cL_law 309 = .ok (.iaload, 1) := by decide +kernel
theorem dL_law_310 : decode cL_law 310 = .ok (.invokevirtual 50, 3) := by decide +kernel
theorem dL_law_313 : decode cL_law 313 = .ok (.aload_n 2, 1) := by decide +kernel
theorem dL_law_314 : decode cL_law 314 = .ok (.aload_n 0, 1) := by decide +kernel
theorem dL_law_315 : decode cL_law 315 = .ok (.iload_n 3, 1) := by decide +kernel
theorem dL_law_316 : decode cL_law 316 = .ok (.iconst 1, 1) := by decide +kernel
theorem dL_law_317 : decode cL_law 317 = .ok (.iadd, 1) := by decide +kernel
theorem dL_law_318 : decode cL_law 318 = .ok (.iaload, 1) := by decide +kernel
theorem dL_law_319 : decode cL_law 319 = .ok (.invokevirtual 53, 3) := by decide +kernel
theorem dL_law_322 : decode cL_law 322 = .ok (.if_icmp .eq 51, 3) := by decide +kernel
theorem dL_law_325 : decode cL_law 325 = .ok (.iconst 0, 1) := by decide +kernel
theorem dL_law_326 : decode cL_law 326 = .ok (.ireturn, 1) := by decide +kernel
theorem dL_law_327 : decode cL_law 327 = .ok (.aload_n 1, 1) := by decide +kernel
theorem dL_law_328 : decode cL_law 328 = .ok (.aload_n 0, 1) := by decide +kernel
theorem dL_law_329 : decode cL_law 329 = .ok (.iload_n 3, 1) := by decide +kernel
theorem dL_law_330 : decode cL_law 330 = .ok (.iconst 1, 1) := by decide +kernel
theorem dL_law_331 : decode cL_law 331 = .ok (.iadd, 1) := by decide +kernel
theorem dL_law_332 : decode cL_law 332 = .ok (.iaload, 1) := by decide +kernel
theorem dL_law_333 : decode cL_law 333 = .ok (.aload_n 0, 1) := by decide +kernel
theorem dL_law_334 : decode cL_law 334 = .ok (.iload_n 3, 1) := by decide +kernel
theorem dL_law_335 : decode cL_law 335 = .ok (.iconst 2, 1) := by decide +kernel
theorem dL_law_336 : decode cL_law 336 = .ok (.iadd, 1) := by decide +kernel
theorem dL_law_337 : decode cL_law 337 = .ok (.iaload, 1) := by decide +kernel
theorem dL_law_338 : decode cL_law 338 = .ok (.invokevirtual 54, 3) := by decide +kernel
theorem dL_law_341 : decode cL_law 341 = .ok (.aload_n 2, 1) := by decide +kernel
theorem dL_law_342 : decode cL_law 342 = .ok (.aload_n 0, 1) := by decide +kernel
theorem dL_law_343 : decode cL_law 343 = .ok (.iload_n 3, 1) := by decide +kernel
theorem dL_law_344 : decode cL_law 344 = .ok (.iconst 1, 1) := by decide +kernel
theorem dL_law_345 : decode cL_law 345 = .ok (.iadd, 1) := by decide +kernel
theorem dL_law_346 : decode cL_law 346 = .ok (.iaload, 1) := by decide +kernel
theorem dL_law_347 : decode cL_law 347 = .ok (.aload_n 0, 1) := by decide +kernel
theorem dL_law_348 : decode cL_law 348 = .ok (.iload_n 3, 1) := by decide +kernel
theorem dL_law_349 : decode cL_law 349 = .ok (.iconst 2, 1) := by decide +kernel
theorem dL_law_350 : decode cL_law 350 = .ok (.iadd, 1) := by decide +kernel
theorem dL_law_351 : decode cL_law 351 = .ok (.iaload, 1) := by decide +kernel
theorem dL_law_352 : decode cL_law 352 = .ok (.invokevirtual 57, 3) := by decide +kernel
theorem dL_law_355 : decode cL_law 355 = .ok (.if_icmp .eq 18, 3) := by decide +kernel
theorem dL_law_358 : decode cL_law 358 = .ok (.iconst 0, 1) := by decide +kernel
theorem dL_law_359 : decode cL_law 359 = .ok (.ireturn, 1) := by decide +kernel
theorem dL_law_360 : decode cL_law 360 = .ok (.aload_n 1, 1) := by decide +kernel
theorem dL_law_361 : decode cL_law 361 = .ok (.invokevirtual 58, 3) := by decide +kernel
theorem dL_law_364 : decode cL_law 364 = .ok (.aload_n 2, 1) := by decide +kernel
theorem dL_law_365 : decode cL_law 365 = .ok (.invokevirtual 61, 3) := by decide +kernel
theorem dL_law_368 : decode cL_law 368 = .ok (.if_icmp .eq 5, 3) := by decide +kernel
theorem dL_law_371 : decode cL_law 371 = .ok (.iconst 0, 1) := by decide +kernel
theorem dL_law_372 : decode cL_law 372 = .ok (.ireturn, 1) := by decide +kernel
theorem dL_law_373 : decode cL_law 373 = .ok (.iinc 3 5, 3) := by decide +kernel
theorem dL_law_376 : decode cL_law 376 = .ok (.goto (-358), 3) := by decide +kernel
theorem dL_law_379 : decode cL_law 379 = .ok (.iconst 1, 1) := by decide +kernel
theorem dL_law_380 : decode cL_law 380 = .ok (.ireturn, 1) := by decide +kernel
end
section
/-! the two classes' worlds, contracts in one form, rows of our own over the kit's -/
set_option maxRecDepth 100000
abbrev vwCl : List vw_C := [(RX0, TX0, 10), (RX1, TX1, 7)]
abbrev wG (ad : Nat → Nat) (d : ClassId) (one dep : Int32) (C F S L T G V R : Nat → Int32) : va_W :=
  [(ad 0, .inr (0, [.int one, .ref (ad 1), .ref (ad 2), .ref (ad 3), .int dep, .ref (ad 4), .ref (ad 5), .ref (ad 6), .ref (ad 7), .ref (ad 8)])), (ad 1, .inl (d, 8, .inl C)), (ad 2, .inl (d, 8, .inl F)), (ad 3, .inl (d, 8, .inl S)), (ad 4, .inl (d, 12, .inl L)), (ad 5, .inl (d, 12, .inl T)), (ad 6, .inl (d, 12, .inl G)), (ad 7, .inl (d, 2, .inl V)), (ad 8, .inl (d, 8, .inl R))]
abbrev wM (ad : Nat → Nat) (d : ClassId) (O C F S R : Nat → Int32) (kn wi : Int32) : va_W :=
  [(ad 0, .inr (1, [.ref (ad 1), .ref (ad 2), .ref (ad 3), .ref (ad 4), .ref (ad 5), .int kn, .int wi])), (ad 1, .inl (d, 8, .inl O)), (ad 2, .inl (d, 8, .inl C)), (ad 3, .inl (d, 8, .inl F)), (ad 4, .inl (d, 8, .inl S)), (ad 5, .inl (d, 8, .inl R))]
/-- a contract's start -/
abbrev PW (D : va_G) (d : ClassId) (av : List Value) (w : va_W) (sz : Nat) : Array Value → State → Prop := va_Pc av (fun U => U.heap.size = sz ∧ va_P D vwCl w U.heap ∧ va_K D vwCl [(d, .int)] U ∧ va_D (fun _ => True) w)
abbrev BW (D : va_G) (d : ClassId) (A : Nat → Prop) (w : va_W) (t : State) : Prop := va_P D vwCl w t.heap ∧ va_K D vwCl [(d, .int)] t ∧ va_D A w
/-- an int (or boolean) method's contract over a whole world w, which becomes w1 u; nothing is made -/
def CI (l : Launch) (y : MethodName) (cc : ByteArray) (mL : Nat) (ret : Option FieldType) (fr lo : Nat) (D : va_G) (d : ClassId) (av : List Value) (w : va_W) {S : Type} (post : Int32 → S → Prop) (w1 : S → va_W) : Prop :=
  ∀ sz : Nat, Met l y (ws_ y cc mL ret) { frames := fr, cells := 0, slots := 0, locals := lo } (PW D d av w sz) (va_Qi post (fun u => BW D d (va_A w sz) (w1 u)) (va_A w sz)) 0 0 (va_A w sz)
/-- a void method's -/
def CV (l : Launch) (y : MethodName) (cc : ByteArray) (mL : Nat) (fr lo : Nat) (D : va_G) (d : ClassId) (av : List Value) (w : va_W) {S : Type} (post : S → Prop) (w1 : S → va_W) : Prop :=
  ∀ sz : Nat, Met l y (ws_ y cc mL none) { frames := fr, cells := 0, slots := 0, locals := lo } (PW D d av w sz) (va_Qv post (fun u => BW D d (va_A w sz) (w1 u)) (va_A w sz)) 0 0 (va_A w sz)
/-- what a body is given -/
def Ent (p : Program) (l : Launch) (s : State) (m : MethodId) (meth : Method) (c : Code) (y : MethodName) (cc : ByteArray) (mL : Nat) (D : va_G) (d : ClassId) (av : List Value) (w : va_W) (A : Nat → Prop) (ls : Array Slot) : Prop :=
  p.tables.exec = Jvm.exec ∧ c.code = cc ∧ c.maxLocals = mL ∧ s.vm.findClass y.cls = some m.cls ∧ (∀ x ∈ lw_all, x.before av.toArray s = true) ∧ (∀ q : Nat, s.heap.size ≤ q → A q) ∧ va_K D vwCl [(d, .int)] s ∧ va_P D vwCl w s.heap ∧ va_D A w ∧ va_S A s.heap s.heap [] ∧ lv_has ls mL (lv_args 0 av)
set_option maxHeartbeats 4000000 in
theorem CI_of {l : Launch} {y : MethodName} {cc : ByteArray} {mL fr lo : Nat} {D : va_G} {d : ClassId} {av : List Value} {w : va_W} {S : Type} {post : Int32 → S → Prop} {w1 : S → va_W} (hy : plainName y.cls = true) (hm : (lg_sl av).length ≤ mL)
    (body : ∀ (p : Program) (e : Env) (s : State) (m : MethodId) (below : List Frame) (meth : Method) (c : Code) (A : Nat → Prop) (Q : State → Prop) (ls : Array Slot), Ent p l s m meth c y cc mL D d av w A ls →
      (∀ (H : Heap) (locs : List Loc) (pc : Nat) (ls : Array Slot) (r : Int32) (u : S), decode cc pc = .ok (.ireturn, 1) → post r u → va_P D vwCl (w1 u) H → va_D A (w1 u) → va_S A s.heap H locs → W p l e { frames := fr, cells := 0, slots := 0, locals := lo } s m av.toArray below meth c H locs 0 0 Q (F0 m pc ls [.int r])) →
      W p l e { frames := fr, cells := 0, slots := 0, locals := lo } s m av.toArray below meth c s.heap [] 0 0 Q (F0 m 0 ls [])) : CI l y cc mL (some .int) fr lo D d av w post w1 := by
  intro sz
  refine Met.ofW (cc := cc) (maxL := mL) (ret := some .int) hy rfl ?_
  intro p e s m args below meth c s₁ B hml hv
  obtain ⟨rfl, hsz, hP, hK, hD0⟩ := hv
  have hts := atoms_spec (ws := ws_ y cc mL (some .int)) B.pre
  have hts : ∀ w ∈ lw_all, w.before _ s = true := fun w h => hts w (List.mem_cons_of_mem _ h)
  have hown : s.vm.findClass y.cls = some m.cls := findClass_of_methodNamed B.named
  have hlocks := B.notSynchronized
  subst hsz
  have hD := hD0.self (sz := s.heap.size)
  generalize hAe : va_A w s.heap.size = A at hD ⊢
  have hA : ∀ q : Nat, s.heap.size ≤ q → A q := fun q h => by rw [← hAe]; exact Or.inr h
  have hl := lv_entry av (n := mL) hm
  rw [lg_entry_eq]
  refine body p e s m below meth c A _ _ ⟨B.exec, B.bytes, hml, hown, hts, hA, hK, hP, hD, va_S.rf, hl⟩ ?_
  intro H locs pc ls r u hdg hpost hP hD hS
  exact W.iret (v := r) B.exec B.bytes B.returns (fun t ht hW => ⟨⟨r, u, rfl, hpost, by rw [ht]; exact hP, va_K.moved hW.alike hK, hD⟩, hS.F ht⟩) hS.2.2 hdg
theorem nar_z {r : Int32} (h : r = 0 ∨ r = 1) : narrow .boolean (.int r) = .int r := by
  rcases h with h | h <;> subst h <;> rfl
set_option maxHeartbeats 4000000 in
theorem CZ_of {l : Launch} {y : MethodName} {cc : ByteArray} {mL fr lo : Nat} {D : va_G} {d : ClassId} {av : List Value} {w : va_W} {S : Type} {post : Int32 → S → Prop} {w1 : S → va_W} (hy : plainName y.cls = true) (hm : (lg_sl av).length ≤ mL)
    (body : ∀ (p : Program) (e : Env) (s : State) (m : MethodId) (below : List Frame) (meth : Method) (c : Code) (A : Nat → Prop) (Q : State → Prop) (ls : Array Slot), Ent p l s m meth c y cc mL D d av w A ls →
      (∀ (H : Heap) (locs : List Loc) (pc : Nat) (ls : Array Slot) (r : Int32) (u : S), decode cc pc = .ok (.ireturn, 1) → (r = 0 ∨ r = 1) → post r u → va_P D vwCl (w1 u) H → va_D A (w1 u) → va_S A s.heap H locs → W p l e { frames := fr, cells := 0, slots := 0, locals := lo } s m av.toArray below meth c H locs 0 0 Q (F0 m pc ls [.int r])) →
      W p l e { frames := fr, cells := 0, slots := 0, locals := lo } s m av.toArray below meth c s.heap [] 0 0 Q (F0 m 0 ls [])) : CI l y cc mL (some .boolean) fr lo D d av w post w1 := by
  intro sz
  refine Met.ofW (cc := cc) (maxL := mL) (ret := some .boolean) hy rfl ?_
  intro p e s m args below meth c s₁ B hml hv
  obtain ⟨rfl, hsz, hP, hK, hD0⟩ := hv
  have hts := atoms_spec (ws := ws_ y cc mL (some .boolean)) B.pre
  have hts : ∀ w ∈ lw_all, w.before _ s = true := fun w h => hts w (List.mem_cons_of_mem _ h)
  have hown : s.vm.findClass y.cls = some m.cls := findClass_of_methodNamed B.named
  have hlocks := B.notSynchronized
  subst hsz
  have hD := hD0.self (sz := s.heap.size)
  generalize hAe : va_A w s.heap.size = A at hD ⊢
  have hA : ∀ q : Nat, s.heap.size ≤ q → A q := fun q h => by rw [← hAe]; exact Or.inr h
  have hl := lv_entry av (n := mL) hm
  rw [lg_entry_eq]
  refine body p e s m below meth c A _ _ ⟨B.exec, B.bytes, hml, hown, hts, hA, hK, hP, hD, va_S.rf, hl⟩ ?_
  intro H locs pc ls r u hdg hr hpost hP hD hS
  exact W.zret (v := r) B.exec B.bytes B.returns (nar_z hr) (fun t ht hW => ⟨⟨r, u, rfl, hpost, by rw [ht]; exact hP, va_K.moved hW.alike hK, hD⟩, hS.F ht⟩) hS.2.2 hdg
set_option maxHeartbeats 4000000 in
theorem CV_of {l : Launch} {y : MethodName} {cc : ByteArray} {mL fr lo : Nat} {D : va_G} {d : ClassId} {av : List Value} {w : va_W} {S : Type} {post : S → Prop} {w1 : S → va_W} (hy : plainName y.cls = true) (hm : (lg_sl av).length ≤ mL)
    (body : ∀ (p : Program) (e : Env) (s : State) (m : MethodId) (below : List Frame) (meth : Method) (c : Code) (A : Nat → Prop) (Q : State → Prop) (ls : Array Slot), Ent p l s m meth c y cc mL D d av w A ls →
      (∀ (H : Heap) (locs : List Loc) (pc : Nat) (ls : Array Slot) (u : S), decode cc pc = .ok (.return_, 1) → post u → va_P D vwCl (w1 u) H → va_D A (w1 u) → va_S A s.heap H locs → W p l e { frames := fr, cells := 0, slots := 0, locals := lo } s m av.toArray below meth c H locs 0 0 Q (F0 m pc ls [])) →
      W p l e { frames := fr, cells := 0, slots := 0, locals := lo } s m av.toArray below meth c s.heap [] 0 0 Q (F0 m 0 ls [])) : CV l y cc mL fr lo D d av w post w1 := by
  intro sz
  refine Met.ofW (cc := cc) (maxL := mL) (ret := none) hy rfl ?_
  intro p e s m args below meth c s₁ B hml hv
  obtain ⟨rfl, hsz, hP, hK, hD0⟩ := hv
  have hts := atoms_spec (ws := ws_ y cc mL none) B.pre
  have hts : ∀ w ∈ lw_all, w.before _ s = true := fun w h => hts w (List.mem_cons_of_mem _ h)
  have hown : s.vm.findClass y.cls = some m.cls := findClass_of_methodNamed B.named
  have hlocks := B.notSynchronized
  subst hsz
  have hD := hD0.self (sz := s.heap.size)
  generalize hAe : va_A w s.heap.size = A at hD ⊢
  have hA : ∀ q : Nat, s.heap.size ≤ q → A q := fun q h => by rw [← hAe]; exact Or.inr h
  have hl := lv_entry av (n := mL) hm
  rw [lg_entry_eq]
  refine body p e s m below meth c A _ _ ⟨B.exec, B.bytes, hml, hown, hts, hA, hK, hP, hD, va_S.rf, hl⟩ ?_
  intro H locs pc ls u hdg hpost hP hD hS
  exact W.vret B.exec B.bytes B.returns (fun t ht hW => ⟨⟨u, rfl, hpost, by rw [ht]; exact hP, va_K.moved hW.alike hK, hD⟩, hS.F ht⟩) hS.2.2 hdg
/-! calls -/
section
variable {p : Program} {l : Launch} {e : Env} {R : Room} {s : State} {m : MethodId} {args : Array Value} {below : List Frame} {meth : Method} {c : Code} {H : Heap} {locs : List Loc} {cells slots : Nat} {Q : State → Prop}
variable {cc : ByteArray} {pc nL : Nat} {ls : Array Slot} {D : va_G} {d : ClassId} {A : Nat → Prop}
/-- the callee's cells are all of the caller's -/
theorem va_all {w w1 : va_W} {H1 : Heap} (hP1 : va_P D vwCl w1 H1) (hF : ∀ q, va_A w H.size q → A q) (hD1 : va_D (va_A w H.size) w1) : va_P D vwCl w1 H1 ∧ va_D A w1 := ⟨hP1, hD1.1, fun k q h => hF _ (hD1.2 k q h)⟩
theorem va_freeA {w : va_W} (hD : va_D A w) (hS : va_S A s.heap H locs) (hA : ∀ q : Nat, s.heap.size ≤ q → A q) : ∀ q, va_A w H.size q → A q := by
  intro q h
  rcases h with ⟨k, e, h⟩ | h
  · exact hD.2 k (q, e) h
  · exact hA q (Nat.le_trans hS.1 h)
/-- an int method called on an object: its world is all of the caller's -/
theorem x_vi {own C : String} {y : MethodName} {code : ByteArray} {mL fr lo : Nat} {ret : Option FieldType} {idx : Nat} {b ci : Nat} {q : vw_C} {fs : List Value} {w : va_W} {S : Type} {post : Int32 → S → Prop} {w1 : S → va_W} (As rest : List Value) {st : List Value} (n : Nat) (hM : CI l y code mL ret fr lo D d (.ref b :: As) w post w1)
    (hx : p.tables.exec = Jvm.exec) (hb : c.code = cc) (hml : c.maxLocals = nL) (hown : s.vm.findClass own = some m.cls) (hts : ∀ x ∈ lw_all, x.before args s = true) (hA : ∀ q : Nat, s.heap.size ≤ q → A q) (hK : va_K D vwCl [(d, .int)] s) (hP : va_P D vwCl w H) (hD : va_D A w) (hS : va_S A s.heap H locs)
    (hG : GoodIn lw_all (wsV own idx C y (ws_ y code mL ret))) (hd : y.cls = C ∧ y.cls ≠ "java/lang/invoke/MethodHandle" ∧ y.cls ≠ "java/lang/invoke/VarHandle" ∧ (parseMethodDescriptor y.desc).map (fun d => d.parameters.length) = some n) (hn : As.length = n) (hR : fr + 1 ≤ R.frames ∧ 8 + (mL + 11) + lo ≤ R.locals)
    (hc : vwCl[ci]? = some q) (he : w[0]? = some (b, .inr (ci, fs))) (hq : q.1 = C) (hst : st = As.reverse ++ .ref b :: rest) (hsz : ls.size = nL) (hroom : (rest.map fun v => v.category).sum ≤ 8) (hcl : cells ≤ R.cells ∧ slots ≤ R.slots) (hdg : decode cc pc = .ok (.invokevirtual idx, 3))
    (kk : ∀ (r : Int32) (u : S) (H1 : Heap) (locs1 : List Loc), post r u → va_P D vwCl (w1 u) H1 → va_D A (w1 u) → va_S A s.heap H1 locs1 → W p l e R s m args below meth c H1 locs1 cells slots Q (F0 m (pc + 3) ls (.int r :: rest))) : W p l e R s m args below meth c H locs cells slots Q (F0 m pc ls st) := by
  subst hst
  have hFc := va_freeA hD hS hA
  refine va_calli (va_runV (As := As) (rest := rest) ⟨hx, hb, hml, hown, hts⟩ (hM H.size) (cwV n hts hG rfl rfl rfl hd hR) ⟨fun a U g mk q => by obtain ⟨q0, q1, qP, qK, qD⟩ := q; exact ⟨q0, q1, qP, va_K.moved (u := U) (U := U.calling g mk a) (Vm.Alike.refl U.vm) qK, qD⟩, by rw [← hq]; exact va_recv hK hP hc he, fun U hU hW => ⟨rfl, by rw [hU], by rw [hU]; exact hP, va_K.moved hW.alike hK, ⟨hD.1, fun _ _ _ => trivial⟩⟩⟩ rfl hn hsz rfl (lv_room hroom) hdg hcl) hS (fun q _ h => hFc q h) hFc (fun r u t H1 locs1 ht hvm hw hB hz1 hk1 hS1 => ?_)
  obtain ⟨hP1, -, hD1⟩ := hB
  rw [ht] at hP1
  obtain ⟨hP2, hD2⟩ := va_all (H := H) hP1 hFc hD1
  exact kk r u H1 locs1 hw hP2 hD2 hS1
/-- a void one -/
theorem x_vv {own C : String} {y : MethodName} {code : ByteArray} {mL fr lo : Nat} {idx : Nat} {b ci : Nat} {q : vw_C} {fs : List Value} {w : va_W} {S : Type} {post : S → Prop} {w1 : S → va_W} (As rest : List Value) {st : List Value} (n : Nat) (hM : CV l y code mL fr lo D d (.ref b :: As) w post w1)
    (hx : p.tables.exec = Jvm.exec) (hb : c.code = cc) (hml : c.maxLocals = nL) (hown : s.vm.findClass own = some m.cls) (hts : ∀ x ∈ lw_all, x.before args s = true) (hA : ∀ q : Nat, s.heap.size ≤ q → A q) (hK : va_K D vwCl [(d, .int)] s) (hP : va_P D vwCl w H) (hD : va_D A w) (hS : va_S A s.heap H locs)
    (hG : GoodIn lw_all (wsV own idx C y (ws_ y code mL none))) (hd : y.cls = C ∧ y.cls ≠ "java/lang/invoke/MethodHandle" ∧ y.cls ≠ "java/lang/invoke/VarHandle" ∧ (parseMethodDescriptor y.desc).map (fun d => d.parameters.length) = some n) (hn : As.length = n) (hR : fr + 1 ≤ R.frames ∧ 8 + (mL + 11) + lo ≤ R.locals)
    (hc : vwCl[ci]? = some q) (he : w[0]? = some (b, .inr (ci, fs))) (hq : q.1 = C) (hst : st = As.reverse ++ .ref b :: rest) (hsz : ls.size = nL) (hroom : (rest.map fun v => v.category).sum ≤ 8) (hcl : cells ≤ R.cells ∧ slots ≤ R.slots) (hdg : decode cc pc = .ok (.invokevirtual idx, 3))
    (kk : ∀ (u : S) (H1 : Heap) (locs1 : List Loc), post u → va_P D vwCl (w1 u) H1 → va_D A (w1 u) → va_S A s.heap H1 locs1 → W p l e R s m args below meth c H1 locs1 cells slots Q (F0 m (pc + 3) ls rest)) : W p l e R s m args below meth c H locs cells slots Q (F0 m pc ls st) := by
  subst hst
  have hFc := va_freeA hD hS hA
  refine va_callv (va_runV (As := As) (rest := rest) ⟨hx, hb, hml, hown, hts⟩ (hM H.size) (cwV n hts hG rfl rfl rfl hd hR) ⟨fun a U g mk q => by obtain ⟨q0, q1, qP, qK, qD⟩ := q; exact ⟨q0, q1, qP, va_K.moved (u := U) (U := U.calling g mk a) (Vm.Alike.refl U.vm) qK, qD⟩, by rw [← hq]; exact va_recv hK hP hc he, fun U hU hW => ⟨rfl, by rw [hU], by rw [hU]; exact hP, va_K.moved hW.alike hK, ⟨hD.1, fun _ _ _ => trivial⟩⟩⟩ rfl hn hsz rfl (lv_room hroom) hdg hcl) hS (fun q _ h => hFc q h) hFc (fun u t H1 locs1 ht hvm hw hB hz1 hk1 hS1 => ?_)
  obtain ⟨hP1, -, hD1⟩ := hB
  rw [ht] at hP1
  obtain ⟨hP2, hD2⟩ := va_all (H := H) hP1 hFc hD1
  exact kk u H1 locs1 hw hP2 hD2 hS1
/-- a static int method -/
theorem x_si {own : String} {y : MethodName} {code : ByteArray} {mL fr lo : Nat} {ret : Option FieldType} {idx : Nat} {w : va_W} {S : Type} {post : Int32 → S → Prop} {w1 : S → va_W} (As rest : List Value) {st : List Value} (n : Nat) (hM : CI l y code mL ret fr lo D d As w post w1)
    (hx : p.tables.exec = Jvm.exec) (hb : c.code = cc) (hml : c.maxLocals = nL) (hown : s.vm.findClass own = some m.cls) (hts : ∀ x ∈ lw_all, x.before args s = true) (hA : ∀ q : Nat, s.heap.size ≤ q → A q) (hK : va_K D vwCl [(d, .int)] s) (hP : va_P D vwCl w H) (hD : va_D A w) (hS : va_S A s.heap H locs)
    (hG : GoodIn lw_all (va_wsS own idx y (ws_ y code mL ret))) (hd : y.cls ≠ "java/lang/invoke/MethodHandle" ∧ y.cls ≠ "java/lang/invoke/VarHandle" ∧ (parseMethodDescriptor y.desc).map (fun d => d.parameters.length) = some n) (hn : As.length = n) (hR : fr + 1 ≤ R.frames ∧ 8 + (mL + 11) + lo ≤ R.locals)
    (hst : st = As.reverse ++ rest) (hsz : ls.size = nL) (hroom : (rest.map fun v => v.category).sum ≤ 8) (hcl : cells ≤ R.cells ∧ slots ≤ R.slots) (hdg : decode cc pc = .ok (.invokestatic idx, 3))
    (kk : ∀ (r : Int32) (u : S) (H1 : Heap) (locs1 : List Loc), post r u → va_P D vwCl (w1 u) H1 → va_D A (w1 u) → va_S A s.heap H1 locs1 → W p l e R s m args below meth c H1 locs1 cells slots Q (F0 m (pc + 3) ls (.int r :: rest))) : W p l e R s m args below meth c H locs cells slots Q (F0 m pc ls st) := by
  subst hst
  have hFc := va_freeA hD hS hA
  refine va_calli (va_runS (As := As) (rest := rest) ⟨hx, hb, hml, hown, hts⟩ (hM H.size) (va_cwS n hts hG rfl rfl rfl hd hR) ⟨fun a U g mk q => by obtain ⟨q0, q1, qP, qK, qD⟩ := q; exact ⟨q0, q1, qP, va_K.moved (u := U) (U := U.calling g mk a) (Vm.Alike.refl U.vm) qK, qD⟩, fun U hU hW => ⟨rfl, by rw [hU], by rw [hU]; exact hP, va_K.moved hW.alike hK, ⟨hD.1, fun _ _ _ => trivial⟩⟩⟩ rfl hn hsz rfl (lv_room hroom) hdg hcl) hS (fun q _ h => hFc q h) hFc (fun r u t H1 locs1 ht hvm hw hB hz1 hk1 hS1 => ?_)
  obtain ⟨hP1, -, hD1⟩ := hB
  rw [ht] at hP1
  obtain ⟨hP2, hD2⟩ := va_all (H := H) hP1 hFc hD1
  exact kk r u H1 locs1 hw hP2 hD2 hS1
/-! arrays by a place that is a Nat -/
theorem x_ald {w : va_W} {a n : Nat} {f : Nat → Int32} {i : Int32} {rest : List Value} (j : Nat) (hi : i = nI j) (q0 : Nat) (hj : j < n) (hn : n < 1000) (hx : p.tables.exec = Jvm.exec) (hb : c.code = cc) (hK : va_K D vwCl [(d, .int)] s) (hP : va_P D vwCl w H) (ha : w[q0]? = some (a, .inl (d, n, .inl f))) (hdg : decode cc pc = .ok (.iaload, 1))
    (kk : W p l e R s m args below meth c H locs cells slots Q (F0 m (pc + 1) ls (.int (f j) :: rest))) : W p l e R s m args below meth c H locs cells slots Q (F0 m pc ls (.int i :: .ref a :: rest)) := by
  subst hi
  refine va_iald hx hb hK hP q0 0 ha rfl (vp_in_nI hj (by omega)) hdg ?_
  rw [nI_clamp (by omega)]
  exact kk
theorem x_ast {w : va_W} {a n : Nat} {f : Nat → Int32} {i x : Int32} {rest : List Value} (j : Nat) (hi : i = nI j) (q0 : Nat) (hj : j < n) (hn : n < 1000) (hx : p.tables.exec = Jvm.exec) (hb : c.code = cc) (hK : va_K D vwCl [(d, .int)] s) (hP : va_P D vwCl w H) (hD : va_D A w) (hS : va_S A s.heap H locs) (ha : w[q0]? = some (a, .inl (d, n, .inl f))) (hdg : decode cc pc = .ok (.iastore, 1))
    (kk : ∀ (H1 : Heap) (locs1 : List Loc), va_P D vwCl (w.set q0 (a, .inl (d, n, .inl (upd f j x)))) H1 → va_D A (w.set q0 (a, .inl (d, n, .inl (upd f j x)))) → va_S A s.heap H1 locs1 → W p l e R s m args below meth c H1 locs1 cells slots Q (F0 m (pc + 1) ls rest)) : W p l e R s m args below meth c H locs cells slots Q (F0 m pc ls (.int x :: .int i :: .ref a :: rest)) := by
  subst hi
  refine va_iast hx hb hK hP hD hS q0 0 ha rfl (vp_in_nI hj (by omega)) hdg ?_
  rw [nI_clamp (by omega)]
  exact kk
/-! fields -/
theorem x_g0 {w : va_W} {a : Nat} {fs : List Value} {v : Value} {rest : List Value} (k idx : Nat) (hx : p.tables.exec = Jvm.exec) (hb : c.code = cc) (hown : s.vm.findClass RX0 = some m.cls) (hts : ∀ x ∈ lw_all, x.before args s = true) (hK : va_K D vwCl [(d, .int)] s) (hP : va_P D vwCl w H) (hk : k < 10) (hq : Cond.fieldLink RX0 idx (TX0 k).1 (TX0 k).2.1 (TX0 k).2.2.1 ∈ lw_all) (he : w[0]? = some (a, .inr (0, fs))) (hv : fs[k]? = some v) (hdg : decode cc pc = .ok (.getfield idx, 3))
    (kk : W p l e R s m args below meth c H locs cells slots Q (F0 m (pc + 3) ls (v :: rest))) : W p l e R s m args below meth c H locs cells slots Q (F0 m pc ls (.ref a :: rest)) :=
  va_get (D := D) (ci := 0) (C := RX0) (T := TX0) (N := 10) hx hb hts in_X0 hown hK hP 0 he rfl k hk (hts _ hq) (fun _ h9 => h9) hv hdg kk
theorem x_g1 {w : va_W} {a : Nat} {fs : List Value} {v : Value} {rest : List Value} (k idx : Nat) (hx : p.tables.exec = Jvm.exec) (hb : c.code = cc) (hown : s.vm.findClass RX1 = some m.cls) (hts : ∀ x ∈ lw_all, x.before args s = true) (hK : va_K D vwCl [(d, .int)] s) (hP : va_P D vwCl w H) (hk : k < 7) (hq : Cond.fieldLink RX1 idx (TX1 k).1 (TX1 k).2.1 (TX1 k).2.2.1 ∈ lw_all) (he : w[0]? = some (a, .inr (1, fs))) (hv : fs[k]? = some v) (hdg : decode cc pc = .ok (.getfield idx, 3))
    (kk : W p l e R s m args below meth c H locs cells slots Q (F0 m (pc + 3) ls (v :: rest))) : W p l e R s m args below meth c H locs cells slots Q (F0 m pc ls (.ref a :: rest)) :=
  va_get (D := D) (ci := 1) (C := RX1) (T := TX1) (N := 7) hx hb hts in_X1 hown hK hP 0 he rfl k hk (hts _ hq) (fun _ h9 => h9) hv hdg kk
theorem x_p0 {w : va_W} {a : Nat} {fs : List Value} {v : Int32} {rest : List Value} (k idx : Nat) (hx : p.tables.exec = Jvm.exec) (hb : c.code = cc) (hown : s.vm.findClass RX0 = some m.cls) (hts : ∀ x ∈ lw_all, x.before args s = true) (hK : va_K D vwCl [(d, .int)] s) (hP : va_P D vwCl w H) (hD : va_D A w) (hS : va_S A s.heap H locs) (hk : k < 10) (hq : Cond.fieldLink RX0 idx (TX0 k).1 (TX0 k).2.1 (TX0 k).2.2.1 ∈ lw_all) (he : w[0]? = some (a, .inr (0, fs))) (hfin : (TX0 k).2.2.2 = false) (hdd : parseFieldDescriptor (TX0 k).2.2.1 = some .int) (hl : k < fs.length) (hdg : decode cc pc = .ok (.putfield idx, 3))
    (kk : ∀ (H1 : Heap) (locs1 : List Loc), va_P D vwCl (w.set 0 (a, .inr (0, fs.set k (.int v)))) H1 → va_D A (w.set 0 (a, .inr (0, fs.set k (.int v)))) → va_S A s.heap H1 locs1 → W p l e R s m args below meth c H1 locs1 cells slots Q (F0 m (pc + 3) ls rest)) : W p l e R s m args below meth c H locs cells slots Q (F0 m pc ls (.int v :: .ref a :: rest)) :=
  va_put (D := D) (ci := 0) (v := .int v) (ty := .int) (C := RX0) (T := TX0) (N := 10) hx hb hts in_X0 tyX0 tyX0_ok nmX0 hown hK hP hD hS 0 he rfl k hk (hts _ hq) (fun _ h9 => h9) hfin hdd rfl rfl hl hdg kk
theorem x_p1 {w : va_W} {a : Nat} {fs : List Value} {v : Int32} {ty : FieldType} {rest : List Value} (k idx : Nat) (hx : p.tables.exec = Jvm.exec) (hb : c.code = cc) (hown : s.vm.findClass RX1 = some m.cls) (hts : ∀ x ∈ lw_all, x.before args s = true) (hK : va_K D vwCl [(d, .int)] s) (hP : va_P D vwCl w H) (hD : va_D A w) (hS : va_S A s.heap H locs) (hk : k < 7) (hq : Cond.fieldLink RX1 idx (TX1 k).1 (TX1 k).2.1 (TX1 k).2.2.1 ∈ lw_all) (he : w[0]? = some (a, .inr (1, fs))) (hfin : (TX1 k).2.2.2 = false) (hdd : parseFieldDescriptor (TX1 k).2.2.1 = some ty) (hn : narrow ty (.int v) = .int v) (hf : fits ty (.int v) = true) (hl : k < fs.length) (hdg : decode cc pc = .ok (.putfield idx, 3))
    (kk : ∀ (H1 : Heap) (locs1 : List Loc), va_P D vwCl (w.set 0 (a, .inr (1, fs.set k (.int v)))) H1 → va_D A (w.set 0 (a, .inr (1, fs.set k (.int v)))) → va_S A s.heap H1 locs1 → W p l e R s m args below meth c H1 locs1 cells slots Q (F0 m (pc + 3) ls rest)) : W p l e R s m args below meth c H locs cells slots Q (F0 m pc ls (.int v :: .ref a :: rest)) :=
  va_put (D := D) (ci := 1) (v := .int v) (ty := ty) (C := RX1) (T := TX1) (N := 7) hx hb hts in_X1 tyX1 tyX1_ok nmX1 hown hK hP hD hS 0 he rfl k hk (hts _ hq) (fun _ h9 => h9) hfin hdd hn hf hl hdg kk
end
theorem nI_i1 (k : Nat) : nI k + Int32.ofInt 1 = nI (k + 1) := nI_1 k
theorem nI_i2 (k : Nat) : nI k + Int32.ofInt 2 = nI (k + 2) := nI_add k 2
theorem nI_im1 (k : Nat) : nI (k + 1) - 1 = nI k := nI_pred k
end
section
/-! 10.x0a: printed by gen (walks) -/
set_option maxRecDepth 100000
theorem ix_of {x : Int32} {n : Nat} (hn : n < 1000) (h : ¬ x < 0) (h2 : x < nI n) : ∃ j, j < n ∧ x = nI j := by
  obtain ⟨j, h3, rfl⟩ := nI_of h
  exact ⟨j, (nI_ltI h3 (by omega)).mp h2, rfl⟩
theorem i32_nlt {x y : Int32} (h : ¬ x < y) : y ≤ x := by
  rw [Int32.lt_iff_toInt_lt] at h
  rw [Int32.le_iff_toInt_le]
  omega
theorem i32_nle {x y : Int32} (h : ¬ x ≤ y) : y < x := by
  rw [Int32.le_iff_toInt_le] at h
  rw [Int32.lt_iff_toInt_lt]
  omega
theorem i32_le {x y : Int32} (h : x ≤ y) : ¬ y < x := by
  rw [Int32.le_iff_toInt_le] at h
  rw [Int32.lt_iff_toInt_lt]
  omega
theorem i32_lt {x y : Int32} (h : x < y) : ¬ y ≤ x := by
  rw [Int32.lt_iff_toInt_lt] at h
  rw [Int32.le_iff_toInt_le]
  omega
/-- a place that is none -/
def a_bad (x : Int32) : Prop := x < 0 ∨ nI 8 ≤ x
theorem a_bad_not {j : Nat} (h : j < 8) : ¬ a_bad (nI j) := by
  rintro (h1 | h1)
  · exact nI_pos (by omega) h1
  · exact nI_ge h (by decide) h1
set_option maxHeartbeats 4000000 in
set_option maxRecDepth 100000 in
/-- a place that is none -/
theorem m0_bad (l : Launch) (D : va_G) (d : ClassId) (w : va_W) (x : Int32) : CI l yX0_bad cX0_bad 1 (some .boolean) 0 0 D d [.int x] (w) (fun r (_ : Unit) => (r = 1 ∧ a_bad x) ∨ (r = 0 ∧ ∃ j, j < 8 ∧ x = nI j)) (fun (_ : Unit) => w) := by
  refine CZ_of (by decide) (Nat.le_of_ble_eq_true rfl) (fun p e s m below meth c A Q ls E hret => ?_)
  obtain ⟨hx, hb, hml, hown, hts, hA, hK, hP, hD, hS, hl⟩ := E
  have hown : s.vm.findClass RX0 = some m.cls := hown
  have hl : lv_has ls 1 [(0, .int x)] := hl
  refine lv_iload_n hx hb dX0_bad_0 rfl (lv_at hl 0 rfl) ?_
  refine lv_if_lt (tgt := 10) hx hb dX0_bad_1 (by decide) (fun c1 => ?_) (fun c1 => ?_)
  · refine lv_iconst (v := 1) hx hb dX0_bad_10 (by decide) ?_
    refine lv_goto (tgt := 15) hx hb dX0_bad_11 (by decide) ?_
    exact hret _ _ _ _ _ () dX0_bad_15 (Or.inr rfl) (Or.inl ⟨rfl, Or.inl c1⟩) hP hD hS
  · refine lv_iload_n hx hb dX0_bad_4 rfl (lv_at hl 0 rfl) ?_
    refine lv_bipush (v := nI 8) hx hb dX0_bad_5 (by decide) ?_
    refine lv_icmp_lt (tgt := 14) hx hb dX0_bad_7 (by decide) (fun c7 => ?_) (fun c7 => ?_)
    · refine lv_iconst (v := 0) hx hb dX0_bad_14 (by decide) ?_
      exact hret _ _ _ _ _ () dX0_bad_15 (Or.inl rfl) (Or.inr ⟨rfl, ix_of (by decide) c1 c7⟩) hP hD hS
    · refine lv_iconst (v := 1) hx hb dX0_bad_10 (by decide) ?_
      refine lv_goto (tgt := 15) hx hb dX0_bad_11 (by decide) ?_
      exact hret _ _ _ _ _ () dX0_bad_15 (Or.inr rfl) (Or.inl ⟨rfl, Or.inr (i32_nlt c7)⟩) hP hD hS
set_option maxHeartbeats 4000000 in
set_option maxRecDepth 100000 in
theorem m0_owner (l : Launch) (D : va_G) (ad : Nat → Nat) (d : ClassId) (one dep : Int32) (C F S L T G V R : Nat → Int32) (j : Nat) : CI l yX0_owner cX0_owner 2 (some .int) 0 0 D d [.ref (ad 0), .int (nI j)] (wG ad d one dep C F S L T G V R) (fun r (_ : Unit) => r = ow one j) (fun (_ : Unit) => wG ad d one dep C F S L T G V R) := by
  refine CI_of (by decide) (Nat.le_of_ble_eq_true rfl) (fun p e s m below meth c A Q ls E hret => ?_)
  obtain ⟨hx, hb, hml, hown, hts, hA, hK, hP, hD, hS, hl⟩ := E
  have hown : s.vm.findClass RX0 = some m.cls := hown
  have hl : lv_has ls 2 [(0, .ref (ad 0)), (1, .int (nI j))] := hl
  refine lv_aload_n hx hb dX0_owner_0 rfl (lv_at hl 0 rfl) ?_
  refine x_g0 0 34 hx hb hown hts hK hP (by decide) q31 rfl rfl dX0_owner_1 ?_
  refine lv_iload_n hx hb dX0_owner_4 rfl (lv_at hl 1 rfl) ?_
  refine lv_ishr hx hb dX0_owner_5 ?_
  refine lv_iconst (v := 1) hx hb dX0_owner_6 (by decide) ?_
  refine lv_iand hx hb dX0_owner_7 ?_
  exact hret _ _ _ _ _ () dX0_owner_8 rfl hP hD hS
set_option maxHeartbeats 4000000 in
set_option maxRecDepth 100000 in
theorem m0_moves (l : Launch) (D : va_G) (ad : Nat → Nat) (d : ClassId) (one dep : Int32) (C F S L T G V R : Nat → Int32) (j : Nat) (hj : j < 8) : CI l yX0_moves cX0_moves 2 (some .int) 0 0 D d [.ref (ad 0), .int (nI j)] (wG ad d one dep C F S L T G V R) (fun r (_ : Unit) => r = mvs F S j) (fun (_ : Unit) => wG ad d one dep C F S L T G V R) := by
  refine CI_of (by decide) (Nat.le_of_ble_eq_true rfl) (fun p e s m below meth c A Q ls E hret => ?_)
  obtain ⟨hx, hb, hml, hown, hts, hA, hK, hP, hD, hS, hl⟩ := E
  have hown : s.vm.findClass RX0 = some m.cls := hown
  have hl : lv_has ls 2 [(0, .ref (ad 0)), (1, .int (nI j))] := hl
  refine lv_iconst (v := 1) hx hb dX0_moves_0 (by decide) ?_
  refine lv_aload_n hx hb dX0_moves_1 rfl (lv_at hl 0 rfl) ?_
  refine x_g0 2 13 hx hb hown hts hK hP (by decide) q33 rfl rfl dX0_moves_2 ?_
  refine lv_iload_n hx hb dX0_moves_5 rfl (lv_at hl 1 rfl) ?_
  refine x_ald j rfl 2 (by omega) (by decide) hx hb hK hP rfl dX0_moves_6 ?_
  refine lv_ishl hx hb dX0_moves_7 ?_
  refine lv_iconst (v := 1) hx hb dX0_moves_8 (by decide) ?_
  refine lv_aload_n hx hb dX0_moves_9 rfl (lv_at hl 0 rfl) ?_
  refine x_g0 3 16 hx hb hown hts hK hP (by decide) q34 rfl rfl dX0_moves_10 ?_
  refine lv_iload_n hx hb dX0_moves_13 rfl (lv_at hl 1 rfl) ?_
  refine x_ald j rfl 3 (by omega) (by decide) hx hb hK hP rfl dX0_moves_14 ?_
  refine lv_ishl hx hb dX0_moves_15 ?_
  refine lv_ior hx hb dX0_moves_16 ?_
  exact hret _ _ _ _ _ () dX0_moves_17 rfl hP hD hS
set_option maxHeartbeats 4000000 in
set_option maxRecDepth 100000 in
theorem m0_greatest (l : Launch) (D : va_G) (ad : Nat → Nat) (d : ClassId) (one dep : Int32) (C F S L T G V R : Nat → Int32) (x : Int32) : CI l yX0_greatest cX0_greatest 4 (some .int) 0 0 D d [.ref (ad 0), .int x] (wG ad d one dep C F S L T G V R) (fun r (_ : Unit) => r = gre C x 8) (fun (_ : Unit) => wG ad d one dep C F S L T G V R) := by
  refine CI_of (by decide) (Nat.le_of_ble_eq_true rfl) (fun p e s m below meth c A Q ls E hret => ?_)
  obtain ⟨hx, hb, hml, hown, hts, hA, hK, hP, hD, hS, hl⟩ := E
  have hown : s.vm.findClass RX0 = some m.cls := hown
  have hl : lv_has ls 4 [(0, .ref (ad 0)), (1, .int x)] := hl
  refine lv_iconst (v := 0) hx hb dX0_greatest_0 (by decide) ?_
  refine lv_istore_n (lv' := [(2, .int 0), (0, .ref (ad 0)), (1, .int x)]) hx hb dX0_greatest_1 rfl hl (by decide) rfl (fun ls hl => ?_)
  refine lv_iconst (v := 0) hx hb dX0_greatest_2 (by decide) ?_
  refine lv_istore_n (lv' := [(3, .int 0), (2, .int 0), (0, .ref (ad 0)), (1, .int x)]) hx hb dX0_greatest_3 rfl hl (by decide) rfl (fun ls hl => ?_)
  have lp : ∀ (n k : Nat), k + n = 8 → ∀ (ls : Array Slot), lv_has ls 4 [(3, .int (nI k)), (2, .int (gre C x k)), (0, .ref (ad 0)), (1, .int x)] → W p l e { frames := 0, cells := 0, slots := 0, locals := 0 } s m ([.ref (ad 0), .int x] : List Value).toArray below meth c s.heap [] 0 0 Q (F0 m 4 ls []) := by
    intro n
    induction n with
    | zero =>
      intro k hk ls hl
      obtain rfl : k = 8 := by omega
      refine lv_iload_n hx hb dX0_greatest_4 rfl (lv_at hl 0 rfl) ?_
      refine lv_bipush (v := nI 8) hx hb dX0_greatest_5 (by decide) ?_
      refine lv_icmp_ge (tgt := 42) hx hb dX0_greatest_7 (by decide) (fun _ => ?_) (fun cc9 => absurd (nI_le (Nat.le_refl 8) (by decide)) cc9)
      refine lv_iload_n hx hb dX0_greatest_42 rfl (lv_at hl 1 rfl) ?_
      exact hret _ _ _ _ _ () dX0_greatest_43 rfl hP hD hS
    | succ n ih =>
      intro k hk ls hl
      refine lv_iload_n hx hb dX0_greatest_4 rfl (lv_at hl 0 rfl) ?_
      refine lv_bipush (v := nI 8) hx hb dX0_greatest_5 (by decide) ?_
      refine lv_icmp_ge (tgt := 42) hx hb dX0_greatest_7 (by decide) (fun cc9 => absurd cc9 (nI_ge (by omega) (by decide))) (fun _ => ?_)
      refine lv_iload_n hx hb dX0_greatest_10 rfl (lv_at hl 3 rfl) ?_
      refine lv_iload_n hx hb dX0_greatest_11 rfl (lv_at hl 0 rfl) ?_
      refine lv_ishr hx hb dX0_greatest_12 ?_
      refine lv_iconst (v := 1) hx hb dX0_greatest_13 (by decide) ?_
      refine lv_iand hx hb dX0_greatest_14 ?_
      refine lv_iconst (v := 1) hx hb dX0_greatest_15 (by decide) ?_
      refine lv_icmp_ne (tgt := 36) hx hb dX0_greatest_16 (by decide) (fun c16 => ?_) (fun c16 => ?_)
      · refine lv_iinc (v := nI (k + 1)) (lv' := [(3, .int (nI (k + 1))), (2, .int (gre C x k)), (0, .ref (ad 0)), (1, .int x)]) hx hb dX0_greatest_36 hl (k := 0) rfl (nI_i1 _) (by decide) rfl (fun ls hl => ?_)
        refine lv_goto (tgt := 4) hx hb dX0_greatest_39 (by decide) ?_
        have e9 : gre C x (k + 1) = gre C x k := if_neg (fun h => c16 ((xb_t _ (by omega)).mpr h.1))
        exact ih (k + 1) (by omega) ls (by rw [e9]; exact lv_sub hl [0, 1, 2, 3] rfl)
      · refine lv_aload_n hx hb dX0_greatest_19 rfl (lv_at hl 2 rfl) ?_
        refine x_g0 1 7 hx hb hown hts hK hP (by decide) q32 rfl rfl dX0_greatest_20 ?_
        refine lv_iload_n hx hb dX0_greatest_23 rfl (lv_at hl 0 rfl) ?_
        refine x_ald k rfl 1 (by omega) (by decide) hx hb hK hP rfl dX0_greatest_24 ?_
        refine lv_iload_n hx hb dX0_greatest_25 rfl (lv_at hl 1 rfl) ?_
        refine lv_icmp_le (tgt := 36) hx hb dX0_greatest_26 (by decide) (fun c26 => ?_) (fun c26 => ?_)
        · refine lv_iinc (v := nI (k + 1)) (lv' := [(3, .int (nI (k + 1))), (2, .int (gre C x k)), (0, .ref (ad 0)), (1, .int x)]) hx hb dX0_greatest_36 hl (k := 0) rfl (nI_i1 _) (by decide) rfl (fun ls hl => ?_)
          refine lv_goto (tgt := 4) hx hb dX0_greatest_39 (by decide) ?_
          have e9 : gre C x (k + 1) = gre C x k := if_neg (fun h => h.2 c26)
          exact ih (k + 1) (by omega) ls (by rw [e9]; exact lv_sub hl [0, 1, 2, 3] rfl)
        · refine lv_aload_n hx hb dX0_greatest_29 rfl (lv_at hl 2 rfl) ?_
          refine x_g0 1 7 hx hb hown hts hK hP (by decide) q32 rfl rfl dX0_greatest_30 ?_
          refine lv_iload_n hx hb dX0_greatest_33 rfl (lv_at hl 0 rfl) ?_
          refine x_ald k rfl 1 (by omega) (by decide) hx hb hK hP rfl dX0_greatest_34 ?_
          refine lv_istore_n (lv' := [(2, .int (C k)), (3, .int (nI k)), (0, .ref (ad 0)), (1, .int x)]) hx hb dX0_greatest_35 rfl hl (by decide) rfl (fun ls hl => ?_)
          refine lv_iinc (v := nI (k + 1)) (lv' := [(3, .int (nI (k + 1))), (2, .int (C k)), (0, .ref (ad 0)), (1, .int x)]) hx hb dX0_greatest_36 hl (k := 1) rfl (nI_i1 _) (by decide) rfl (fun ls hl => ?_)
          refine lv_goto (tgt := 4) hx hb dX0_greatest_39 (by decide) ?_
          have e9 : gre C x (k + 1) = C k := if_pos ⟨(xb_t _ (by omega)).mp c16, c26⟩
          exact ih (k + 1) (by omega) ls (by rw [e9]; exact lv_sub hl [0, 1, 2, 3] rfl)
  exact lp 8 0 rfl ls (lv_sub hl [0, 1, 2, 3] rfl)
set_option maxHeartbeats 4000000 in
set_option maxRecDepth 100000 in
theorem m0_withColour (l : Launch) (D : va_G) (ad : Nat → Nat) (d : ClassId) (one dep : Int32) (C F S L T G V R : Nat → Int32) (x y : Int32) : CI l yX0_withColour cX0_withColour 5 (some .int) 0 0 D d [.ref (ad 0), .int x, .int y] (wG ad d one dep C F S L T G V R) (fun r (_ : Unit) => r = wcl C x y 8) (fun (_ : Unit) => wG ad d one dep C F S L T G V R) := by
  refine CI_of (by decide) (Nat.le_of_ble_eq_true rfl) (fun p e s m below meth c A Q ls E hret => ?_)
  obtain ⟨hx, hb, hml, hown, hts, hA, hK, hP, hD, hS, hl⟩ := E
  have hown : s.vm.findClass RX0 = some m.cls := hown
  have hl : lv_has ls 5 [(0, .ref (ad 0)), (1, .int x), (2, .int y)] := hl
  refine lv_iconst (v := 0) hx hb dX0_withColour_0 (by decide) ?_
  refine lv_istore_n (lv' := [(3, .int 0), (0, .ref (ad 0)), (1, .int x), (2, .int y)]) hx hb dX0_withColour_1 rfl hl (by decide) rfl (fun ls hl => ?_)
  refine lv_iconst (v := 0) hx hb dX0_withColour_2 (by decide) ?_
  refine lv_istore (lv' := [(4, .int 0), (3, .int 0), (0, .ref (ad 0)), (1, .int x), (2, .int y)]) hx hb dX0_withColour_3 hl (by decide) rfl (fun ls hl => ?_)
  have lp : ∀ (n k : Nat), k + n = 8 → ∀ (ls : Array Slot), lv_has ls 5 [(4, .int (nI k)), (3, .int (wcl C x y k)), (0, .ref (ad 0)), (1, .int x), (2, .int y)] → W p l e { frames := 0, cells := 0, slots := 0, locals := 0 } s m ([.ref (ad 0), .int x, .int y] : List Value).toArray below meth c s.heap [] 0 0 Q (F0 m 5 ls []) := by
    intro n
    induction n with
    | zero =>
      intro k hk ls hl
      obtain rfl : k = 8 := by omega
      refine lv_iload hx hb dX0_withColour_5 (lv_at hl 0 rfl) ?_
      refine lv_bipush (v := nI 8) hx hb dX0_withColour_7 (by decide) ?_
      refine lv_icmp_ge (tgt := 46) hx hb dX0_withColour_9 (by decide) (fun _ => ?_) (fun cc9 => absurd (nI_le (Nat.le_refl 8) (by decide)) cc9)
      refine lv_iload_n hx hb dX0_withColour_46 rfl (lv_at hl 1 rfl) ?_
      exact hret _ _ _ _ _ () dX0_withColour_47 rfl hP hD hS
    | succ n ih =>
      intro k hk ls hl
      refine lv_iload hx hb dX0_withColour_5 (lv_at hl 0 rfl) ?_
      refine lv_bipush (v := nI 8) hx hb dX0_withColour_7 (by decide) ?_
      refine lv_icmp_ge (tgt := 46) hx hb dX0_withColour_9 (by decide) (fun cc9 => absurd cc9 (nI_ge (by omega) (by decide))) (fun _ => ?_)
      refine lv_iload_n hx hb dX0_withColour_12 rfl (lv_at hl 3 rfl) ?_
      refine lv_iload hx hb dX0_withColour_13 (lv_at hl 0 rfl) ?_
      refine lv_ishr hx hb dX0_withColour_15 ?_
      refine lv_iconst (v := 1) hx hb dX0_withColour_16 (by decide) ?_
      refine lv_iand hx hb dX0_withColour_17 ?_
      refine lv_iconst (v := 1) hx hb dX0_withColour_18 (by decide) ?_
      refine lv_icmp_ne (tgt := 40) hx hb dX0_withColour_19 (by decide) (fun c19 => ?_) (fun c19 => ?_)
      · refine lv_iinc (v := nI (k + 1)) (lv' := [(4, .int (nI (k + 1))), (3, .int (wcl C x y k)), (0, .ref (ad 0)), (1, .int x), (2, .int y)]) hx hb dX0_withColour_40 hl (k := 0) rfl (nI_i1 _) (by decide) rfl (fun ls hl => ?_)
        refine lv_goto (tgt := 5) hx hb dX0_withColour_43 (by decide) ?_
        have e9 : wcl C x y (k + 1) = wcl C x y k := if_neg (fun h => c19 ((xb_t _ (by omega)).mpr h.1))
        exact ih (k + 1) (by omega) ls (by rw [e9]; exact lv_sub hl [0, 1, 2, 3, 4] rfl)
      · refine lv_aload_n hx hb dX0_withColour_22 rfl (lv_at hl 2 rfl) ?_
        refine x_g0 1 7 hx hb hown hts hK hP (by decide) q32 rfl rfl dX0_withColour_23 ?_
        refine lv_iload hx hb dX0_withColour_26 (lv_at hl 0 rfl) ?_
        refine x_ald k rfl 1 (by omega) (by decide) hx hb hK hP rfl dX0_withColour_28 ?_
        refine lv_iload_n hx hb dX0_withColour_29 rfl (lv_at hl 4 rfl) ?_
        refine lv_icmp_ne (tgt := 40) hx hb dX0_withColour_30 (by decide) (fun c30 => ?_) (fun c30 => ?_)
        · refine lv_iinc (v := nI (k + 1)) (lv' := [(4, .int (nI (k + 1))), (3, .int (wcl C x y k)), (0, .ref (ad 0)), (1, .int x), (2, .int y)]) hx hb dX0_withColour_40 hl (k := 0) rfl (nI_i1 _) (by decide) rfl (fun ls hl => ?_)
          refine lv_goto (tgt := 5) hx hb dX0_withColour_43 (by decide) ?_
          have e9 : wcl C x y (k + 1) = wcl C x y k := if_neg (fun h => c30 h.2)
          exact ih (k + 1) (by omega) ls (by rw [e9]; exact lv_sub hl [0, 1, 2, 3, 4] rfl)
        · refine lv_iload_n hx hb dX0_withColour_33 rfl (lv_at hl 1 rfl) ?_
          refine lv_iconst (v := 1) hx hb dX0_withColour_34 (by decide) ?_
          refine lv_iload hx hb dX0_withColour_35 (lv_at hl 0 rfl) ?_
          refine lv_ishl hx hb dX0_withColour_37 ?_
          refine lv_ior hx hb dX0_withColour_38 ?_
          refine lv_istore_n (lv' := [(3, .int ((wcl C x y k) ||| ((1 : Int32) <<< ((nI k) &&& 31)))), (4, .int (nI k)), (0, .ref (ad 0)), (1, .int x), (2, .int y)]) hx hb dX0_withColour_39 rfl hl (by decide) rfl (fun ls hl => ?_)
          refine lv_iinc (v := nI (k + 1)) (lv' := [(4, .int (nI (k + 1))), (3, .int ((wcl C x y k) ||| ((1 : Int32) <<< ((nI k) &&& 31)))), (0, .ref (ad 0)), (1, .int x), (2, .int y)]) hx hb dX0_withColour_40 hl (k := 1) rfl (nI_i1 _) (by decide) rfl (fun ls hl => ?_)
          refine lv_goto (tgt := 5) hx hb dX0_withColour_43 (by decide) ?_
          have e9 : wcl C x y (k + 1) = (wcl C x y k) ||| ((1 : Int32) <<< ((nI k) &&& 31)) := if_pos ⟨(xb_t _ (by omega)).mp c19, c30⟩
          exact ih (k + 1) (by omega) ls (by rw [e9]; exact lv_sub hl [0, 1, 2, 3, 4] rfl)
  exact lp 8 0 rfl ls (lv_sub hl [0, 1, 2, 3, 4] rfl)
set_option maxHeartbeats 4000000 in
set_option maxRecDepth 100000 in
theorem m0_lowOnly (l : Launch) (D : va_G) (ad : Nat → Nat) (d : ClassId) (one dep : Int32) (C F S L T G V R : Nat → Int32) (x y : Int32) : CI l yX0_lowOnly cX0_lowOnly 5 (some .int) 0 0 D d [.ref (ad 0), .int x, .int y] (wG ad d one dep C F S L T G V R) (fun r (_ : Unit) => r = low C x y) (fun (_ : Unit) => wG ad d one dep C F S L T G V R) := by
  refine CI_of (by decide) (Nat.le_of_ble_eq_true rfl) (fun p e s m below meth c A Q ls E hret => ?_)
  obtain ⟨hx, hb, hml, hown, hts, hA, hK, hP, hD, hS, hl⟩ := E
  have hown : s.vm.findClass RX0 = some m.cls := hown
  have hl : lv_has ls 5 [(0, .ref (ad 0)), (1, .int x), (2, .int y)] := hl
  refine lv_iconst (v := 0) hx hb dX0_lowOnly_0 (by decide) ?_
  refine lv_istore_n (lv' := [(3, .int 0), (0, .ref (ad 0)), (1, .int x), (2, .int y)]) hx hb dX0_lowOnly_1 rfl hl (by decide) rfl (fun ls hl => ?_)
  refine lv_iconst (v := 0) hx hb dX0_lowOnly_2 (by decide) ?_
  refine lv_istore (lv' := [(4, .int 0), (3, .int 0), (0, .ref (ad 0)), (1, .int x), (2, .int y)]) hx hb dX0_lowOnly_3 hl (by decide) rfl (fun ls hl => ?_)
  have lp : ∀ (n k : Nat), k + n = 8 → ∀ (ls : Array Slot), lv_has ls 5 [(4, .int (nI k)), (3, .int (pm (fun k => bt x k = true ∧ C k ≤ y) 0 k)), (0, .ref (ad 0)), (1, .int x), (2, .int y)] → W p l e { frames := 0, cells := 0, slots := 0, locals := 0 } s m ([.ref (ad 0), .int x, .int y] : List Value).toArray below meth c s.heap [] 0 0 Q (F0 m 5 ls []) := by
    intro n
    induction n with
    | zero =>
      intro k hk ls hl
      obtain rfl : k = 8 := by omega
      refine lv_iload hx hb dX0_lowOnly_5 (lv_at hl 0 rfl) ?_
      refine lv_bipush (v := nI 8) hx hb dX0_lowOnly_7 (by decide) ?_
      refine lv_icmp_ge (tgt := 46) hx hb dX0_lowOnly_9 (by decide) (fun _ => ?_) (fun cc9 => absurd (nI_le (Nat.le_refl 8) (by decide)) cc9)
      refine lv_iload_n hx hb dX0_lowOnly_46 rfl (lv_at hl 1 rfl) ?_
      exact hret _ _ _ _ _ () dX0_lowOnly_47 rfl hP hD hS
    | succ n ih =>
      intro k hk ls hl
      refine lv_iload hx hb dX0_lowOnly_5 (lv_at hl 0 rfl) ?_
      refine lv_bipush (v := nI 8) hx hb dX0_lowOnly_7 (by decide) ?_
      refine lv_icmp_ge (tgt := 46) hx hb dX0_lowOnly_9 (by decide) (fun cc9 => absurd cc9 (nI_ge (by omega) (by decide))) (fun _ => ?_)
      refine lv_iload_n hx hb dX0_lowOnly_12 rfl (lv_at hl 3 rfl) ?_
      refine lv_iload hx hb dX0_lowOnly_13 (lv_at hl 0 rfl) ?_
      refine lv_ishr hx hb dX0_lowOnly_15 ?_
      refine lv_iconst (v := 1) hx hb dX0_lowOnly_16 (by decide) ?_
      refine lv_iand hx hb dX0_lowOnly_17 ?_
      refine lv_iconst (v := 1) hx hb dX0_lowOnly_18 (by decide) ?_
      refine lv_icmp_ne (tgt := 40) hx hb dX0_lowOnly_19 (by decide) (fun c19 => ?_) (fun c19 => ?_)
      · refine lv_iinc (v := nI (k + 1)) (lv' := [(4, .int (nI (k + 1))), (3, .int (pm (fun k => bt x k = true ∧ C k ≤ y) 0 k)), (0, .ref (ad 0)), (1, .int x), (2, .int y)]) hx hb dX0_lowOnly_40 hl (k := 0) rfl (nI_i1 _) (by decide) rfl (fun ls hl => ?_)
        refine lv_goto (tgt := 5) hx hb dX0_lowOnly_43 (by decide) ?_
        have e9 : pm (fun k => bt x k = true ∧ C k ≤ y) 0 (k + 1) = pm (fun k => bt x k = true ∧ C k ≤ y) 0 k := pm_f (fun h => c19 ((xb_t _ (by omega)).mpr h.1))
        exact ih (k + 1) (by omega) ls (by rw [e9]; exact lv_sub hl [0, 1, 2, 3, 4] rfl)
      · refine lv_aload_n hx hb dX0_lowOnly_22 rfl (lv_at hl 2 rfl) ?_
        refine x_g0 1 7 hx hb hown hts hK hP (by decide) q32 rfl rfl dX0_lowOnly_23 ?_
        refine lv_iload hx hb dX0_lowOnly_26 (lv_at hl 0 rfl) ?_
        refine x_ald k rfl 1 (by omega) (by decide) hx hb hK hP rfl dX0_lowOnly_28 ?_
        refine lv_iload_n hx hb dX0_lowOnly_29 rfl (lv_at hl 4 rfl) ?_
        refine lv_icmp_gt (tgt := 40) hx hb dX0_lowOnly_30 (by decide) (fun c30 => ?_) (fun c30 => ?_)
        · refine lv_iinc (v := nI (k + 1)) (lv' := [(4, .int (nI (k + 1))), (3, .int (pm (fun k => bt x k = true ∧ C k ≤ y) 0 k)), (0, .ref (ad 0)), (1, .int x), (2, .int y)]) hx hb dX0_lowOnly_40 hl (k := 0) rfl (nI_i1 _) (by decide) rfl (fun ls hl => ?_)
          refine lv_goto (tgt := 5) hx hb dX0_lowOnly_43 (by decide) ?_
          have e9 : pm (fun k => bt x k = true ∧ C k ≤ y) 0 (k + 1) = pm (fun k => bt x k = true ∧ C k ≤ y) 0 k := pm_f (fun h => i32_le h.2 c30)
          exact ih (k + 1) (by omega) ls (by rw [e9]; exact lv_sub hl [0, 1, 2, 3, 4] rfl)
        · refine lv_iload_n hx hb dX0_lowOnly_33 rfl (lv_at hl 1 rfl) ?_
          refine lv_iconst (v := 1) hx hb dX0_lowOnly_34 (by decide) ?_
          refine lv_iload hx hb dX0_lowOnly_35 (lv_at hl 0 rfl) ?_
          refine lv_ishl hx hb dX0_lowOnly_37 ?_
          refine lv_ior hx hb dX0_lowOnly_38 ?_
          refine lv_istore_n (lv' := [(3, .int ((pm (fun k => bt x k = true ∧ C k ≤ y) 0 k) ||| ((1 : Int32) <<< ((nI k) &&& 31)))), (4, .int (nI k)), (0, .ref (ad 0)), (1, .int x), (2, .int y)]) hx hb dX0_lowOnly_39 rfl hl (by decide) rfl (fun ls hl => ?_)
          refine lv_iinc (v := nI (k + 1)) (lv' := [(4, .int (nI (k + 1))), (3, .int ((pm (fun k => bt x k = true ∧ C k ≤ y) 0 k) ||| ((1 : Int32) <<< ((nI k) &&& 31)))), (0, .ref (ad 0)), (1, .int x), (2, .int y)]) hx hb dX0_lowOnly_40 hl (k := 1) rfl (nI_i1 _) (by decide) rfl (fun ls hl => ?_)
          refine lv_goto (tgt := 5) hx hb dX0_lowOnly_43 (by decide) ?_
          have e9 : pm (fun k => bt x k = true ∧ C k ≤ y) 0 (k + 1) = (pm (fun k => bt x k = true ∧ C k ≤ y) 0 k) ||| ((1 : Int32) <<< ((nI k) &&& 31)) := pm_t ⟨(xb_t _ (by omega)).mp c19, i32_nlt c30⟩
          exact ih (k + 1) (by omega) ls (by rw [e9]; exact lv_sub hl [0, 1, 2, 3, 4] rfl)
  exact lp 8 0 rfl ls (lv_sub hl [0, 1, 2, 3, 4] rfl)
set_option maxHeartbeats 4000000 in
set_option maxRecDepth 100000 in
theorem m0_push (l : Launch) (D : va_G) (ad : Nat → Nat) (d : ClassId) (one : Int32) (C F S L T G V R : Nat → Int32) (j : Nat) (hj : j < 12) (x : Int32) : CV l yX0_push cX0_push 2 0 0 D d [.ref (ad 0), .int x] (wG ad d one (nI j) C F S L T G V R) (fun (_ : Unit) => True) (fun (_ : Unit) => wG ad d one (nI (j + 1)) C F S (upd L j x) (upd T j 0) G V R) := by
  refine CV_of (by decide) (Nat.le_of_ble_eq_true rfl) (fun p e s m below meth c A Q ls E hret => ?_)
  obtain ⟨hx, hb, hml, hown, hts, hA, hK, hP, hD, hS, hl⟩ := E
  have hown : s.vm.findClass RX0 = some m.cls := hown
  have hl : lv_has ls 2 [(0, .ref (ad 0)), (1, .int x)] := hl
  refine lv_aload_n hx hb dX0_push_0 rfl (lv_at hl 0 rfl) ?_
  refine x_g0 5 19 hx hb hown hts hK hP (by decide) q36 rfl rfl dX0_push_1 ?_
  refine lv_aload_n hx hb dX0_push_4 rfl (lv_at hl 0 rfl) ?_
  refine x_g0 4 49 hx hb hown hts hK hP (by decide) q35 rfl rfl dX0_push_5 ?_
  refine lv_iload_n hx hb dX0_push_8 rfl (lv_at hl 1 rfl) ?_
  refine x_ast j rfl 4 (by omega) (by decide) hx hb hK hP hD hS rfl dX0_push_9 (fun H locs hP hD hS => ?_)
  have hP : va_P D vwCl (wG ad d one (nI j) C F S (upd L j x) T G V R) H := hP
  have hD : va_D A (wG ad d one (nI j) C F S (upd L j x) T G V R) := hD
  refine lv_aload_n hx hb dX0_push_10 rfl (lv_at hl 0 rfl) ?_
  refine x_g0 6 22 hx hb hown hts hK hP (by decide) q37 rfl rfl dX0_push_11 ?_
  refine lv_aload_n hx hb dX0_push_14 rfl (lv_at hl 0 rfl) ?_
  refine x_g0 4 49 hx hb hown hts hK hP (by decide) q35 rfl rfl dX0_push_15 ?_
  refine lv_iconst (v := 0) hx hb dX0_push_18 (by decide) ?_
  refine x_ast j rfl 5 (by omega) (by decide) hx hb hK hP hD hS rfl dX0_push_19 (fun H locs hP hD hS => ?_)
  have hP : va_P D vwCl (wG ad d one (nI j) C F S (upd L j x) (upd T j 0) G V R) H := hP
  have hD : va_D A (wG ad d one (nI j) C F S (upd L j x) (upd T j 0) G V R) := hD
  refine lv_aload_n hx hb dX0_push_20 rfl (lv_at hl 0 rfl) ?_
  refine lv_dup hx hb dX0_push_21 rfl ?_
  refine x_g0 4 49 hx hb hown hts hK hP (by decide) q35 rfl rfl dX0_push_22 ?_
  refine lv_iconst (v := 1) hx hb dX0_push_25 (by decide) ?_
  refine lv_iadd hx hb dX0_push_26 ?_
  refine x_p0 4 49 hx hb hown hts hK hP hD hS (by decide) q35 rfl rfl (by decide +kernel) (Nat.le_of_ble_eq_true rfl) dX0_push_27 (fun H locs hP hD hS => ?_)
  have hP : va_P D vwCl (wG ad d one ((nI j) + 1) C F S (upd L j x) (upd T j 0) G V R) H := hP
  have hD : va_D A (wG ad d one ((nI j) + 1) C F S (upd L j x) (upd T j 0) G V R) := hD
  rw [nI_1] at hP hD
  exact hret _ _ _ _ () dX0_push_30 trivial hP hD hS
set_option maxHeartbeats 4000000 in
set_option maxRecDepth 100000 in
theorem m0_movesBy (l : Launch) (D : va_G) (ad : Nat → Nat) (d : ClassId) (one dep : Int32) (C F S L T G V R : Nat → Int32) (j : Nat) (hj : j < 8) (pl ch : Int32) : CI l yX0_movesBy cX0_movesBy 4 (some .int) 1 21 D d [.ref (ad 0), .int (nI j), .int pl, .int ch] (wG ad d one dep C F S L T G V R) (fun r (_ : Unit) => r = mvb one F S pl ch j) (fun (_ : Unit) => wG ad d one dep C F S L T G V R) := by
  refine CI_of (by decide) (Nat.le_of_ble_eq_true rfl) (fun p e s m below meth c A Q ls E hret => ?_)
  obtain ⟨hx, hb, hml, hown, hts, hA, hK, hP, hD, hS, hl⟩ := E
  have hown : s.vm.findClass RX0 = some m.cls := hown
  have hl : lv_has ls 4 [(0, .ref (ad 0)), (1, .int (nI j)), (2, .int pl), (3, .int ch)] := hl
  refine lv_aload_n hx hb dX0_movesBy_0 rfl (lv_at hl 0 rfl) ?_
  refine lv_iload_n hx hb dX0_movesBy_1 rfl (lv_at hl 1 rfl) ?_
  refine x_vi [.int (nI j)] [] 1 (m0_owner l D ad d one dep C F S L T G V R j) hx hb hml hown hts hA hK hP hD hS (lw_V q78 q80 qs0 q21 q81) (by decide +kernel) rfl ⟨Nat.le_of_ble_eq_true rfl, Nat.le_of_ble_eq_true rfl⟩ rfl rfl rfl rfl hl.1 (Nat.le_of_ble_eq_true rfl) ⟨Nat.zero_le _, Nat.zero_le _⟩ dX0_movesBy_2 (fun r u H locs hw hP hD hS => ?_)
  subst hw
  refine lv_iload_n hx hb dX0_movesBy_5 rfl (lv_at hl 2 rfl) ?_
  refine lv_icmp_eq (tgt := 15) hx hb dX0_movesBy_6 (by decide) (fun c6 => ?_) (fun c6 => ?_)
  · refine lv_iload_n hx hb dX0_movesBy_15 rfl (lv_at hl 3 rfl) ?_
    refine lv_iload_n hx hb dX0_movesBy_16 rfl (lv_at hl 1 rfl) ?_
    refine lv_ishr hx hb dX0_movesBy_17 ?_
    refine lv_iconst (v := 1) hx hb dX0_movesBy_18 (by decide) ?_
    refine lv_iand hx hb dX0_movesBy_19 ?_
    refine lv_iconst (v := 1) hx hb dX0_movesBy_20 (by decide) ?_
    refine lv_icmp_ne (tgt := 35) hx hb dX0_movesBy_21 (by decide) (fun c21 => ?_) (fun c21 => ?_)
    · refine lv_iconst (v := 1) hx hb dX0_movesBy_35 (by decide) ?_
      refine lv_aload_n hx hb dX0_movesBy_36 rfl (lv_at hl 0 rfl) ?_
      refine x_g0 2 13 hx hb hown hts hK hP (by decide) q33 rfl rfl dX0_movesBy_37 ?_
      refine lv_iload_n hx hb dX0_movesBy_40 rfl (lv_at hl 1 rfl) ?_
      refine x_ald j rfl 2 (by omega) (by decide) hx hb hK hP rfl dX0_movesBy_41 ?_
      refine lv_ishl hx hb dX0_movesBy_42 ?_
      exact hret _ _ _ _ _ () dX0_movesBy_43 (by unfold mvb; rw [if_pos c6, if_neg (fun h => c21 ((xb_t _ (by omega)).mpr h))]) hP hD hS
    · refine lv_iconst (v := 1) hx hb dX0_movesBy_24 (by decide) ?_
      refine lv_aload_n hx hb dX0_movesBy_25 rfl (lv_at hl 0 rfl) ?_
      refine x_g0 3 16 hx hb hown hts hK hP (by decide) q34 rfl rfl dX0_movesBy_26 ?_
      refine lv_iload_n hx hb dX0_movesBy_29 rfl (lv_at hl 1 rfl) ?_
      refine x_ald j rfl 3 (by omega) (by decide) hx hb hK hP rfl dX0_movesBy_30 ?_
      refine lv_ishl hx hb dX0_movesBy_31 ?_
      refine lv_goto (tgt := 43) hx hb dX0_movesBy_32 (by decide) ?_
      exact hret _ _ _ _ _ () dX0_movesBy_43 (by unfold mvb; rw [if_pos c6, if_pos ((xb_t _ (by omega)).mp c21)]) hP hD hS
  · refine lv_aload_n hx hb dX0_movesBy_9 rfl (lv_at hl 0 rfl) ?_
    refine lv_iload_n hx hb dX0_movesBy_10 rfl (lv_at hl 1 rfl) ?_
    refine x_vi [.int (nI j)] [] 1 (m0_moves l D ad d one dep C F S L T G V R j hj) hx hb hml hown hts hA hK hP hD hS (lw_V q114 q116 qs7 q21 q117) (by decide +kernel) rfl ⟨Nat.le_of_ble_eq_true rfl, Nat.le_of_ble_eq_true rfl⟩ rfl rfl rfl rfl hl.1 (Nat.le_of_ble_eq_true rfl) ⟨Nat.zero_le _, Nat.zero_le _⟩ dX0_movesBy_11 (fun r u H locs hw hP hD hS => ?_)
    subst hw
    exact hret _ _ _ _ _ () dX0_movesBy_14 (if_neg c6).symm hP hD hS
end
section
/-! 11.x0b: printed by gen (walks) -/
set_option maxRecDepth 100000
set_option maxHeartbeats 4000000 in
set_option maxRecDepth 100000 in
theorem m0_forced (l : Launch) (D : va_G) (ad : Nat → Nat) (d : ClassId) (one dep : Int32) (C F S L T G V R : Nat → Int32) (pl tg am : Int32) : CI l yX0_forced cX0_forced 11 (some .int) 1 21 D d [.ref (ad 0), .int pl, .int tg, .int am] (wG ad d one dep C F S L T G V R) (fun r (_ : Unit) => r = fro one F S pl am 9 tg 0) (fun (_ : Unit) => wG ad d one dep C F S L T G V R) := by
  refine CI_of (by decide) (Nat.le_of_ble_eq_true rfl) (fun p e s m below meth c A Q ls E hret => ?_)
  obtain ⟨hx, hb, hml, hown, hts, hA, hK, hP, hD, hS, hl⟩ := E
  have hown : s.vm.findClass RX0 = some m.cls := hown
  have hl : lv_has ls 11 [(0, .ref (ad 0)), (1, .int pl), (2, .int tg), (3, .int am)] := hl
  refine lv_iload_n hx hb dX0_forced_0 rfl (lv_at hl 2 rfl) ?_
  refine lv_istore (lv' := [(4, .int tg), (0, .ref (ad 0)), (1, .int pl), (2, .int tg), (3, .int am)]) hx hb dX0_forced_1 hl (by decide) rfl (fun ls hl => ?_)
  refine lv_iconst (v := 0) hx hb dX0_forced_3 (by decide) ?_
  refine lv_istore (lv' := [(5, .int 0), (4, .int tg), (0, .ref (ad 0)), (1, .int pl), (2, .int tg), (3, .int am)]) hx hb dX0_forced_4 hl (by decide) rfl (fun ls hl => ?_)
  refine lv_iconst (v := 0) hx hb dX0_forced_6 (by decide) ?_
  refine lv_istore (lv' := [(6, .int 0), (5, .int 0), (4, .int tg), (0, .ref (ad 0)), (1, .int pl), (2, .int tg), (3, .int am)]) hx hb dX0_forced_7 hl (by decide) rfl (fun ls hl => ?_)
  have lpo : ∀ (n k : Nat) (x y : Int32), k + n = 9 → fro one F S pl am n x y = fro one F S pl am 9 tg 0 → ∀ (H : Heap) (locs : List Loc) (ls : Array Slot), va_P D vwCl (wG ad d one dep C F S L T G V R) H → va_D A (wG ad d one dep C F S L T G V R) → va_S A s.heap H locs → lv_has ls 11 [(6, .int (nI k)), (5, .int y), (4, .int x), (0, .ref (ad 0)), (1, .int pl), (2, .int tg), (3, .int am)] → W p l e { frames := 1, cells := 0, slots := 0, locals := 21 } s m ([.ref (ad 0), .int pl, .int tg, .int am] : List Value).toArray below meth c H locs 0 0 Q (F0 m 9 ls []) := by
    intro n
    induction n with
    | zero =>
      intro k x y hk hres H locs ls hP hD hS hl
      obtain rfl : k = 9 := by omega
      refine lv_iload hx hb dX0_forced_9 (lv_at hl 0 rfl) ?_
      refine lv_bipush (v := nI 8) hx hb dX0_forced_11 (by decide) ?_
      refine lv_icmp_gt (tgt := 140) hx hb dX0_forced_13 (by decide) (fun _ => ?_) (fun cc9 => absurd (nI_lt (by decide) (by decide)) cc9)
      refine lv_iload hx hb dX0_forced_140 (lv_at hl 2 rfl) ?_
      exact hret _ _ _ _ _ () dX0_forced_142 hres hP hD hS
    | succ n ih =>
      intro k x y hk hres H locs ls hP hD hS hl
      refine lv_iload hx hb dX0_forced_9 (lv_at hl 0 rfl) ?_
      refine lv_bipush (v := nI 8) hx hb dX0_forced_11 (by decide) ?_
      refine lv_icmp_gt (tgt := 140) hx hb dX0_forced_13 (by decide) (fun cc9 => absurd cc9 (nI_nlt (by omega) (by decide))) (fun _ => ?_)
      refine lv_iload hx hb dX0_forced_16 (lv_at hl 2 rfl) ?_
      refine lv_iload hx hb dX0_forced_18 (lv_at hl 1 rfl) ?_
      refine lv_icmp_eq (tgt := 140) hx hb dX0_forced_20 (by decide) (fun c20 => ?_) (fun c20 => ?_)
      · refine lv_iload hx hb dX0_forced_140 (lv_at hl 2 rfl) ?_
        exact hret _ _ _ _ _ () dX0_forced_142 ((if_pos c20).symm.trans hres) hP hD hS
      · refine lv_iload hx hb dX0_forced_23 (lv_at hl 2 rfl) ?_
        refine lv_istore (lv' := [(5, .int x), (6, .int (nI k)), (4, .int x), (0, .ref (ad 0)), (1, .int pl), (2, .int tg), (3, .int am)]) hx hb dX0_forced_25 hl (by decide) rfl (fun ls hl => ?_)
        refine lv_iconst (v := 0) hx hb dX0_forced_27 (by decide) ?_
        refine lv_istore (lv' := [(7, .int 0), (5, .int x), (6, .int (nI k)), (4, .int x), (0, .ref (ad 0)), (1, .int pl), (2, .int tg), (3, .int am)]) hx hb dX0_forced_28 hl (by decide) rfl (fun ls hl => ?_)
        have hres2 : fro one F S pl am n (fps one F S pl am x x 8) x = fro one F S pl am 9 tg 0 := (if_neg c20).symm.trans hres
        have lpi : ∀ (n2 q : Nat), q + n2 = 8 → ∀ (H : Heap) (locs : List Loc) (ls : Array Slot), va_P D vwCl (wG ad d one dep C F S L T G V R) H → va_D A (wG ad d one dep C F S L T G V R) → va_S A s.heap H locs → lv_has ls 11 [(7, .int (nI q)), (4, .int (fps one F S pl am x x q)), (5, .int x), (6, .int (nI k)), (0, .ref (ad 0)), (1, .int pl), (2, .int tg), (3, .int am)] → W p l e { frames := 1, cells := 0, slots := 0, locals := 21 } s m ([.ref (ad 0), .int pl, .int tg, .int am] : List Value).toArray below meth c H locs 0 0 Q (F0 m 30 ls []) := by
          intro n2
          induction n2 with
          | zero =>
            intro q hq H locs ls hP hD hS hl
            obtain rfl : q = 8 := by omega
            refine lv_iload hx hb dX0_forced_30 (lv_at hl 0 rfl) ?_
            refine lv_bipush (v := nI 8) hx hb dX0_forced_32 (by decide) ?_
            refine lv_icmp_ge (tgt := 134) hx hb dX0_forced_34 (by decide) (fun _ => ?_) (fun cc9 => absurd (nI_le (Nat.le_refl 8) (by decide)) cc9)
            refine lv_iinc (v := nI (k + 1)) (lv' := [(6, .int (nI (k + 1))), (7, .int (nI 8)), (4, .int (fps one F S pl am x x 8)), (5, .int x), (0, .ref (ad 0)), (1, .int pl), (2, .int tg), (3, .int am)]) hx hb dX0_forced_134 hl (k := 3) rfl (nI_i1 _) (by decide) rfl (fun ls hl => ?_)
            refine lv_goto (tgt := 9) hx hb dX0_forced_137 (by decide) ?_
            exact ih (k + 1) _ x (by omega) hres2 H locs ls hP hD hS (lv_sub hl [0, 3, 2, 4, 5, 6, 7] rfl)
          | succ n2 ih2 =>
            intro q hq H locs ls hP hD hS hl
            refine lv_iload hx hb dX0_forced_30 (lv_at hl 0 rfl) ?_
            refine lv_bipush (v := nI 8) hx hb dX0_forced_32 (by decide) ?_
            refine lv_icmp_ge (tgt := 134) hx hb dX0_forced_34 (by decide) (fun cc9 => absurd cc9 (nI_ge (by omega) (by decide))) (fun _ => ?_)
            refine lv_iload_n hx hb dX0_forced_37 rfl (lv_at hl 7 rfl) ?_
            refine lv_iload hx hb dX0_forced_38 (lv_at hl 0 rfl) ?_
            refine lv_ishr hx hb dX0_forced_40 ?_
            refine lv_iconst (v := 1) hx hb dX0_forced_41 (by decide) ?_
            refine lv_iand hx hb dX0_forced_42 ?_
            refine lv_iconst (v := 1) hx hb dX0_forced_43 (by decide) ?_
            refine lv_icmp_ne (tgt := 128) hx hb dX0_forced_44 (by decide) (fun c44 => ?_) (fun c44 => ?_)
            · refine lv_iinc (v := nI (q + 1)) (lv' := [(7, .int (nI (q + 1))), (4, .int (fps one F S pl am x x q)), (5, .int x), (6, .int (nI k)), (0, .ref (ad 0)), (1, .int pl), (2, .int tg), (3, .int am)]) hx hb dX0_forced_128 hl (k := 0) rfl (nI_i1 _) (by decide) rfl (fun ls hl => ?_)
              refine lv_goto (tgt := 30) hx hb dX0_forced_131 (by decide) ?_
              have e9 : fps one F S pl am x x (q + 1) = fps one F S pl am x x q := fps_f (fun h => c44 ((xb_t _ (by omega)).mpr h.1))
              exact ih2 (q + 1) (by omega) H locs ls hP hD hS (by rw [e9]; exact lv_sub hl [0, 1, 2, 3, 4, 5, 6, 7] rfl)
            · refine lv_aload_n hx hb dX0_forced_47 rfl (lv_at hl 4 rfl) ?_
              refine lv_iload hx hb dX0_forced_48 (lv_at hl 0 rfl) ?_
              refine x_vi [.int (nI q)] [] 1 (m0_moves l D ad d one dep C F S L T G V R q (by omega)) hx hb hml hown hts hA hK hP hD hS (lw_V q114 q116 qs7 q21 q117) (by decide +kernel) rfl ⟨Nat.le_of_ble_eq_true rfl, Nat.le_of_ble_eq_true rfl⟩ rfl rfl rfl rfl hl.1 (Nat.le_of_ble_eq_true rfl) ⟨Nat.zero_le _, Nat.zero_le _⟩ dX0_forced_50 (fun r u H locs hw hP hD hS => ?_)
              subst hw
              refine lv_iload_n hx hb dX0_forced_53 rfl (lv_at hl 7 rfl) ?_
              refine lv_iand hx hb dX0_forced_54 ?_
              refine lv_istore (lv' := [(8, .int ((mvs F S q) &&& am)), (7, .int (nI q)), (4, .int (fps one F S pl am x x q)), (5, .int x), (6, .int (nI k)), (0, .ref (ad 0)), (1, .int pl), (2, .int tg), (3, .int am)]) hx hb dX0_forced_55 hl (by decide) rfl (fun ls hl => ?_)
              refine lv_iload hx hb dX0_forced_57 (lv_at hl 0 rfl) ?_
              refine lv_iload hx hb dX0_forced_59 (lv_at hl 3 rfl) ?_
              refine lv_iand hx hb dX0_forced_61 ?_
              refine lv_if_eq (tgt := 69) hx hb dX0_forced_62 (by decide) (fun c62 => ?_) (fun c62 => ?_)
              · refine lv_iconst (v := 0) hx hb dX0_forced_69 (by decide) ?_
                refine lv_istore (lv' := [(9, .int 0), (8, .int ((mvs F S q) &&& am)), (7, .int (nI q)), (4, .int (fps one F S pl am x x q)), (5, .int x), (6, .int (nI k)), (0, .ref (ad 0)), (1, .int pl), (2, .int tg), (3, .int am)]) hx hb dX0_forced_70 hl (by decide) rfl (fun ls hl => ?_)
                refine lv_iload hx hb dX0_forced_72 (lv_at hl 1 rfl) ?_
                refine lv_iload hx hb dX0_forced_74 (lv_at hl 4 rfl) ?_
                refine lv_iconst (v := (-1)) hx hb dX0_forced_76 (by decide) ?_
                refine lv_ixor hx hb dX0_forced_77 ?_
                refine lv_iand hx hb dX0_forced_78 ?_
                refine lv_if_ne (tgt := 86) hx hb dX0_forced_79 (by decide) (fun c79 => ?_) (fun c79 => ?_)
                · refine lv_iconst (v := 0) hx hb dX0_forced_86 (by decide) ?_
                  refine lv_istore (lv' := [(10, .int 0), (9, .int 0), (8, .int ((mvs F S q) &&& am)), (7, .int (nI q)), (4, .int (fps one F S pl am x x q)), (5, .int x), (6, .int (nI k)), (0, .ref (ad 0)), (1, .int pl), (2, .int tg), (3, .int am)]) hx hb dX0_forced_87 hl (by decide) rfl (fun ls hl => ?_)
                  refine lv_aload_n hx hb dX0_forced_89 rfl (lv_at hl 7 rfl) ?_
                  refine lv_iload hx hb dX0_forced_90 (lv_at hl 3 rfl) ?_
                  refine x_vi [.int (nI q)] [] 1 (m0_owner l D ad d one dep C F S L T G V R q) hx hb hml hown hts hA hK hP hD hS (lw_V q78 q80 qs0 q21 q81) (by decide +kernel) rfl ⟨Nat.le_of_ble_eq_true rfl, Nat.le_of_ble_eq_true rfl⟩ rfl rfl rfl rfl hl.1 (Nat.le_of_ble_eq_true rfl) ⟨Nat.zero_le _, Nat.zero_le _⟩ dX0_forced_92 (fun r u H locs hw hP hD hS => ?_)
                  subst hw
                  refine lv_iload_n hx hb dX0_forced_95 rfl (lv_at hl 8 rfl) ?_
                  refine lv_icmp_ne (tgt := 104) hx hb dX0_forced_96 (by decide) (fun c96 => ?_) (fun c96 => ?_)
                  · refine lv_aload_n hx hb dX0_forced_104 rfl (lv_at hl 7 rfl) ?_
                    refine lv_iload hx hb dX0_forced_105 (lv_at hl 3 rfl) ?_
                    refine x_vi [.int (nI q)] [] 1 (m0_owner l D ad d one dep C F S L T G V R q) hx hb hml hown hts hA hK hP hD hS (lw_V q78 q80 qs0 q21 q81) (by decide +kernel) rfl ⟨Nat.le_of_ble_eq_true rfl, Nat.le_of_ble_eq_true rfl⟩ rfl rfl rfl rfl hl.1 (Nat.le_of_ble_eq_true rfl) ⟨Nat.zero_le _, Nat.zero_le _⟩ dX0_forced_107 (fun r u H locs hw hP hD hS => ?_)
                    subst hw
                    refine lv_iload_n hx hb dX0_forced_110 rfl (lv_at hl 8 rfl) ?_
                    refine lv_icmp_eq (tgt := 128) hx hb dX0_forced_111 (by decide) (fun cc9 => absurd cc9 c96) (fun _ => ?_)
                    refine lv_iload hx hb dX0_forced_114 (lv_at hl 0 rfl) ?_
                    refine lv_if_eq (tgt := 128) hx hb dX0_forced_116 (by decide) (fun _ => ?_) (fun cc9 => absurd (by decide) cc9)
                    refine lv_iinc (v := nI (q + 1)) (lv' := [(7, .int (nI (q + 1))), (10, .int 0), (9, .int 0), (8, .int ((mvs F S q) &&& am)), (4, .int (fps one F S pl am x x q)), (5, .int x), (6, .int (nI k)), (0, .ref (ad 0)), (1, .int pl), (2, .int tg), (3, .int am)]) hx hb dX0_forced_128 hl (k := 3) rfl (nI_i1 _) (by decide) rfl (fun ls hl => ?_)
                    refine lv_goto (tgt := 30) hx hb dX0_forced_131 (by decide) ?_
                    have e9 : fps one F S pl am x x (q + 1) = fps one F S pl am x x q := fps_f (fun h => h.2.elim (fun h => c96 h.1) (fun h => c79 h.2))
                    exact ih2 (q + 1) (by omega) H locs ls hP hD hS (by rw [e9]; exact lv_sub hl [0, 4, 5, 6, 7, 8, 9, 10] rfl)
                  · refine lv_iload hx hb dX0_forced_99 (lv_at hl 1 rfl) ?_
                    refine lv_if_ne (tgt := 119) hx hb dX0_forced_101 (by decide) (fun cc9 => absurd (by decide) cc9) (fun _ => ?_)
                    refine lv_aload_n hx hb dX0_forced_104 rfl (lv_at hl 7 rfl) ?_
                    refine lv_iload hx hb dX0_forced_105 (lv_at hl 3 rfl) ?_
                    refine x_vi [.int (nI q)] [] 1 (m0_owner l D ad d one dep C F S L T G V R q) hx hb hml hown hts hA hK hP hD hS (lw_V q78 q80 qs0 q21 q81) (by decide +kernel) rfl ⟨Nat.le_of_ble_eq_true rfl, Nat.le_of_ble_eq_true rfl⟩ rfl rfl rfl rfl hl.1 (Nat.le_of_ble_eq_true rfl) ⟨Nat.zero_le _, Nat.zero_le _⟩ dX0_forced_107 (fun r u H locs hw hP hD hS => ?_)
                    subst hw
                    refine lv_iload_n hx hb dX0_forced_110 rfl (lv_at hl 8 rfl) ?_
                    refine lv_icmp_eq (tgt := 128) hx hb dX0_forced_111 (by decide) (fun _ => ?_) (fun cc9 => absurd c96 cc9)
                    refine lv_iinc (v := nI (q + 1)) (lv' := [(7, .int (nI (q + 1))), (10, .int 0), (9, .int 0), (8, .int ((mvs F S q) &&& am)), (4, .int (fps one F S pl am x x q)), (5, .int x), (6, .int (nI k)), (0, .ref (ad 0)), (1, .int pl), (2, .int tg), (3, .int am)]) hx hb dX0_forced_128 hl (k := 3) rfl (nI_i1 _) (by decide) rfl (fun ls hl => ?_)
                    refine lv_goto (tgt := 30) hx hb dX0_forced_131 (by decide) ?_
                    have e9 : fps one F S pl am x x (q + 1) = fps one F S pl am x x q := fps_f (fun h => h.2.elim (fun h => h.2 c62) (fun h => h.1 c96))
                    exact ih2 (q + 1) (by omega) H locs ls hP hD hS (by rw [e9]; exact lv_sub hl [0, 4, 5, 6, 7, 8, 9, 10] rfl)
                · refine lv_iconst (v := 1) hx hb dX0_forced_82 (by decide) ?_
                  refine lv_goto (tgt := 87) hx hb dX0_forced_83 (by decide) ?_
                  refine lv_istore (lv' := [(10, .int 1), (9, .int 0), (8, .int ((mvs F S q) &&& am)), (7, .int (nI q)), (4, .int (fps one F S pl am x x q)), (5, .int x), (6, .int (nI k)), (0, .ref (ad 0)), (1, .int pl), (2, .int tg), (3, .int am)]) hx hb dX0_forced_87 hl (by decide) rfl (fun ls hl => ?_)
                  refine lv_aload_n hx hb dX0_forced_89 rfl (lv_at hl 7 rfl) ?_
                  refine lv_iload hx hb dX0_forced_90 (lv_at hl 3 rfl) ?_
                  refine x_vi [.int (nI q)] [] 1 (m0_owner l D ad d one dep C F S L T G V R q) hx hb hml hown hts hA hK hP hD hS (lw_V q78 q80 qs0 q21 q81) (by decide +kernel) rfl ⟨Nat.le_of_ble_eq_true rfl, Nat.le_of_ble_eq_true rfl⟩ rfl rfl rfl rfl hl.1 (Nat.le_of_ble_eq_true rfl) ⟨Nat.zero_le _, Nat.zero_le _⟩ dX0_forced_92 (fun r u H locs hw hP hD hS => ?_)
                  subst hw
                  refine lv_iload_n hx hb dX0_forced_95 rfl (lv_at hl 8 rfl) ?_
                  refine lv_icmp_ne (tgt := 104) hx hb dX0_forced_96 (by decide) (fun c96 => ?_) (fun c96 => ?_)
                  · refine lv_aload_n hx hb dX0_forced_104 rfl (lv_at hl 7 rfl) ?_
                    refine lv_iload hx hb dX0_forced_105 (lv_at hl 3 rfl) ?_
                    refine x_vi [.int (nI q)] [] 1 (m0_owner l D ad d one dep C F S L T G V R q) hx hb hml hown hts hA hK hP hD hS (lw_V q78 q80 qs0 q21 q81) (by decide +kernel) rfl ⟨Nat.le_of_ble_eq_true rfl, Nat.le_of_ble_eq_true rfl⟩ rfl rfl rfl rfl hl.1 (Nat.le_of_ble_eq_true rfl) ⟨Nat.zero_le _, Nat.zero_le _⟩ dX0_forced_107 (fun r u H locs hw hP hD hS => ?_)
                    subst hw
                    refine lv_iload_n hx hb dX0_forced_110 rfl (lv_at hl 8 rfl) ?_
                    refine lv_icmp_eq (tgt := 128) hx hb dX0_forced_111 (by decide) (fun cc9 => absurd cc9 c96) (fun _ => ?_)
                    refine lv_iload hx hb dX0_forced_114 (lv_at hl 0 rfl) ?_
                    refine lv_if_eq (tgt := 128) hx hb dX0_forced_116 (by decide) (fun cc9 => absurd cc9 (by decide)) (fun _ => ?_)
                    refine lv_iload hx hb dX0_forced_119 (lv_at hl 4 rfl) ?_
                    refine lv_iconst (v := 1) hx hb dX0_forced_121 (by decide) ?_
                    refine lv_iload hx hb dX0_forced_122 (lv_at hl 3 rfl) ?_
                    refine lv_ishl hx hb dX0_forced_124 ?_
                    refine lv_ior hx hb dX0_forced_125 ?_
                    refine lv_istore (lv' := [(4, .int ((fps one F S pl am x x q) ||| ((1 : Int32) <<< ((nI q) &&& 31)))), (10, .int 1), (9, .int 0), (8, .int ((mvs F S q) &&& am)), (7, .int (nI q)), (5, .int x), (6, .int (nI k)), (0, .ref (ad 0)), (1, .int pl), (2, .int tg), (3, .int am)]) hx hb dX0_forced_126 hl (by decide) rfl (fun ls hl => ?_)
                    refine lv_iinc (v := nI (q + 1)) (lv' := [(7, .int (nI (q + 1))), (4, .int ((fps one F S pl am x x q) ||| ((1 : Int32) <<< ((nI q) &&& 31)))), (10, .int 1), (9, .int 0), (8, .int ((mvs F S q) &&& am)), (5, .int x), (6, .int (nI k)), (0, .ref (ad 0)), (1, .int pl), (2, .int tg), (3, .int am)]) hx hb dX0_forced_128 hl (k := 4) rfl (nI_i1 _) (by decide) rfl (fun ls hl => ?_)
                    refine lv_goto (tgt := 30) hx hb dX0_forced_131 (by decide) ?_
                    have e9 : fps one F S pl am x x (q + 1) = (fps one F S pl am x x q) ||| ((1 : Int32) <<< ((nI q) &&& 31)) := fps_t ⟨(xb_t _ (by omega)).mp c44, Or.inr ⟨c96, c79⟩⟩
                    exact ih2 (q + 1) (by omega) H locs ls hP hD hS (by rw [e9]; exact lv_sub hl [0, 1, 5, 6, 7, 8, 9, 10] rfl)
                  · refine lv_iload hx hb dX0_forced_99 (lv_at hl 1 rfl) ?_
                    refine lv_if_ne (tgt := 119) hx hb dX0_forced_101 (by decide) (fun cc9 => absurd (by decide) cc9) (fun _ => ?_)
                    refine lv_aload_n hx hb dX0_forced_104 rfl (lv_at hl 7 rfl) ?_
                    refine lv_iload hx hb dX0_forced_105 (lv_at hl 3 rfl) ?_
                    refine x_vi [.int (nI q)] [] 1 (m0_owner l D ad d one dep C F S L T G V R q) hx hb hml hown hts hA hK hP hD hS (lw_V q78 q80 qs0 q21 q81) (by decide +kernel) rfl ⟨Nat.le_of_ble_eq_true rfl, Nat.le_of_ble_eq_true rfl⟩ rfl rfl rfl rfl hl.1 (Nat.le_of_ble_eq_true rfl) ⟨Nat.zero_le _, Nat.zero_le _⟩ dX0_forced_107 (fun r u H locs hw hP hD hS => ?_)
                    subst hw
                    refine lv_iload_n hx hb dX0_forced_110 rfl (lv_at hl 8 rfl) ?_
                    refine lv_icmp_eq (tgt := 128) hx hb dX0_forced_111 (by decide) (fun _ => ?_) (fun cc9 => absurd c96 cc9)
                    refine lv_iinc (v := nI (q + 1)) (lv' := [(7, .int (nI (q + 1))), (10, .int 1), (9, .int 0), (8, .int ((mvs F S q) &&& am)), (4, .int (fps one F S pl am x x q)), (5, .int x), (6, .int (nI k)), (0, .ref (ad 0)), (1, .int pl), (2, .int tg), (3, .int am)]) hx hb dX0_forced_128 hl (k := 3) rfl (nI_i1 _) (by decide) rfl (fun ls hl => ?_)
                    refine lv_goto (tgt := 30) hx hb dX0_forced_131 (by decide) ?_
                    have e9 : fps one F S pl am x x (q + 1) = fps one F S pl am x x q := fps_f (fun h => h.2.elim (fun h => h.2 c62) (fun h => h.1 c96))
                    exact ih2 (q + 1) (by omega) H locs ls hP hD hS (by rw [e9]; exact lv_sub hl [0, 4, 5, 6, 7, 8, 9, 10] rfl)
              · refine lv_iconst (v := 1) hx hb dX0_forced_65 (by decide) ?_
                refine lv_goto (tgt := 70) hx hb dX0_forced_66 (by decide) ?_
                refine lv_istore (lv' := [(9, .int 1), (8, .int ((mvs F S q) &&& am)), (7, .int (nI q)), (4, .int (fps one F S pl am x x q)), (5, .int x), (6, .int (nI k)), (0, .ref (ad 0)), (1, .int pl), (2, .int tg), (3, .int am)]) hx hb dX0_forced_70 hl (by decide) rfl (fun ls hl => ?_)
                refine lv_iload hx hb dX0_forced_72 (lv_at hl 1 rfl) ?_
                refine lv_iload hx hb dX0_forced_74 (lv_at hl 4 rfl) ?_
                refine lv_iconst (v := (-1)) hx hb dX0_forced_76 (by decide) ?_
                refine lv_ixor hx hb dX0_forced_77 ?_
                refine lv_iand hx hb dX0_forced_78 ?_
                refine lv_if_ne (tgt := 86) hx hb dX0_forced_79 (by decide) (fun c79 => ?_) (fun c79 => ?_)
                · refine lv_iconst (v := 0) hx hb dX0_forced_86 (by decide) ?_
                  refine lv_istore (lv' := [(10, .int 0), (9, .int 1), (8, .int ((mvs F S q) &&& am)), (7, .int (nI q)), (4, .int (fps one F S pl am x x q)), (5, .int x), (6, .int (nI k)), (0, .ref (ad 0)), (1, .int pl), (2, .int tg), (3, .int am)]) hx hb dX0_forced_87 hl (by decide) rfl (fun ls hl => ?_)
                  refine lv_aload_n hx hb dX0_forced_89 rfl (lv_at hl 7 rfl) ?_
                  refine lv_iload hx hb dX0_forced_90 (lv_at hl 3 rfl) ?_
                  refine x_vi [.int (nI q)] [] 1 (m0_owner l D ad d one dep C F S L T G V R q) hx hb hml hown hts hA hK hP hD hS (lw_V q78 q80 qs0 q21 q81) (by decide +kernel) rfl ⟨Nat.le_of_ble_eq_true rfl, Nat.le_of_ble_eq_true rfl⟩ rfl rfl rfl rfl hl.1 (Nat.le_of_ble_eq_true rfl) ⟨Nat.zero_le _, Nat.zero_le _⟩ dX0_forced_92 (fun r u H locs hw hP hD hS => ?_)
                  subst hw
                  refine lv_iload_n hx hb dX0_forced_95 rfl (lv_at hl 8 rfl) ?_
                  refine lv_icmp_ne (tgt := 104) hx hb dX0_forced_96 (by decide) (fun c96 => ?_) (fun c96 => ?_)
                  · refine lv_aload_n hx hb dX0_forced_104 rfl (lv_at hl 7 rfl) ?_
                    refine lv_iload hx hb dX0_forced_105 (lv_at hl 3 rfl) ?_
                    refine x_vi [.int (nI q)] [] 1 (m0_owner l D ad d one dep C F S L T G V R q) hx hb hml hown hts hA hK hP hD hS (lw_V q78 q80 qs0 q21 q81) (by decide +kernel) rfl ⟨Nat.le_of_ble_eq_true rfl, Nat.le_of_ble_eq_true rfl⟩ rfl rfl rfl rfl hl.1 (Nat.le_of_ble_eq_true rfl) ⟨Nat.zero_le _, Nat.zero_le _⟩ dX0_forced_107 (fun r u H locs hw hP hD hS => ?_)
                    subst hw
                    refine lv_iload_n hx hb dX0_forced_110 rfl (lv_at hl 8 rfl) ?_
                    refine lv_icmp_eq (tgt := 128) hx hb dX0_forced_111 (by decide) (fun cc9 => absurd cc9 c96) (fun _ => ?_)
                    refine lv_iload hx hb dX0_forced_114 (lv_at hl 0 rfl) ?_
                    refine lv_if_eq (tgt := 128) hx hb dX0_forced_116 (by decide) (fun _ => ?_) (fun cc9 => absurd (by decide) cc9)
                    refine lv_iinc (v := nI (q + 1)) (lv' := [(7, .int (nI (q + 1))), (10, .int 0), (9, .int 1), (8, .int ((mvs F S q) &&& am)), (4, .int (fps one F S pl am x x q)), (5, .int x), (6, .int (nI k)), (0, .ref (ad 0)), (1, .int pl), (2, .int tg), (3, .int am)]) hx hb dX0_forced_128 hl (k := 3) rfl (nI_i1 _) (by decide) rfl (fun ls hl => ?_)
                    refine lv_goto (tgt := 30) hx hb dX0_forced_131 (by decide) ?_
                    have e9 : fps one F S pl am x x (q + 1) = fps one F S pl am x x q := fps_f (fun h => h.2.elim (fun h => c96 h.1) (fun h => c79 h.2))
                    exact ih2 (q + 1) (by omega) H locs ls hP hD hS (by rw [e9]; exact lv_sub hl [0, 4, 5, 6, 7, 8, 9, 10] rfl)
                  · refine lv_iload hx hb dX0_forced_99 (lv_at hl 1 rfl) ?_
                    refine lv_if_ne (tgt := 119) hx hb dX0_forced_101 (by decide) (fun _ => ?_) (fun cc9 => absurd cc9 (by decide))
                    refine lv_iload hx hb dX0_forced_119 (lv_at hl 4 rfl) ?_
                    refine lv_iconst (v := 1) hx hb dX0_forced_121 (by decide) ?_
                    refine lv_iload hx hb dX0_forced_122 (lv_at hl 3 rfl) ?_
                    refine lv_ishl hx hb dX0_forced_124 ?_
                    refine lv_ior hx hb dX0_forced_125 ?_
                    refine lv_istore (lv' := [(4, .int ((fps one F S pl am x x q) ||| ((1 : Int32) <<< ((nI q) &&& 31)))), (10, .int 0), (9, .int 1), (8, .int ((mvs F S q) &&& am)), (7, .int (nI q)), (5, .int x), (6, .int (nI k)), (0, .ref (ad 0)), (1, .int pl), (2, .int tg), (3, .int am)]) hx hb dX0_forced_126 hl (by decide) rfl (fun ls hl => ?_)
                    refine lv_iinc (v := nI (q + 1)) (lv' := [(7, .int (nI (q + 1))), (4, .int ((fps one F S pl am x x q) ||| ((1 : Int32) <<< ((nI q) &&& 31)))), (10, .int 0), (9, .int 1), (8, .int ((mvs F S q) &&& am)), (5, .int x), (6, .int (nI k)), (0, .ref (ad 0)), (1, .int pl), (2, .int tg), (3, .int am)]) hx hb dX0_forced_128 hl (k := 4) rfl (nI_i1 _) (by decide) rfl (fun ls hl => ?_)
                    refine lv_goto (tgt := 30) hx hb dX0_forced_131 (by decide) ?_
                    have e9 : fps one F S pl am x x (q + 1) = (fps one F S pl am x x q) ||| ((1 : Int32) <<< ((nI q) &&& 31)) := fps_t ⟨(xb_t _ (by omega)).mp c44, Or.inl ⟨c96, c62⟩⟩
                    exact ih2 (q + 1) (by omega) H locs ls hP hD hS (by rw [e9]; exact lv_sub hl [0, 1, 5, 6, 7, 8, 9, 10] rfl)
                · refine lv_iconst (v := 1) hx hb dX0_forced_82 (by decide) ?_
                  refine lv_goto (tgt := 87) hx hb dX0_forced_83 (by decide) ?_
                  refine lv_istore (lv' := [(10, .int 1), (9, .int 1), (8, .int ((mvs F S q) &&& am)), (7, .int (nI q)), (4, .int (fps one F S pl am x x q)), (5, .int x), (6, .int (nI k)), (0, .ref (ad 0)), (1, .int pl), (2, .int tg), (3, .int am)]) hx hb dX0_forced_87 hl (by decide) rfl (fun ls hl => ?_)
                  refine lv_aload_n hx hb dX0_forced_89 rfl (lv_at hl 7 rfl) ?_
                  refine lv_iload hx hb dX0_forced_90 (lv_at hl 3 rfl) ?_
                  refine x_vi [.int (nI q)] [] 1 (m0_owner l D ad d one dep C F S L T G V R q) hx hb hml hown hts hA hK hP hD hS (lw_V q78 q80 qs0 q21 q81) (by decide +kernel) rfl ⟨Nat.le_of_ble_eq_true rfl, Nat.le_of_ble_eq_true rfl⟩ rfl rfl rfl rfl hl.1 (Nat.le_of_ble_eq_true rfl) ⟨Nat.zero_le _, Nat.zero_le _⟩ dX0_forced_92 (fun r u H locs hw hP hD hS => ?_)
                  subst hw
                  refine lv_iload_n hx hb dX0_forced_95 rfl (lv_at hl 8 rfl) ?_
                  refine lv_icmp_ne (tgt := 104) hx hb dX0_forced_96 (by decide) (fun c96 => ?_) (fun c96 => ?_)
                  · refine lv_aload_n hx hb dX0_forced_104 rfl (lv_at hl 7 rfl) ?_
                    refine lv_iload hx hb dX0_forced_105 (lv_at hl 3 rfl) ?_
                    refine x_vi [.int (nI q)] [] 1 (m0_owner l D ad d one dep C F S L T G V R q) hx hb hml hown hts hA hK hP hD hS (lw_V q78 q80 qs0 q21 q81) (by decide +kernel) rfl ⟨Nat.le_of_ble_eq_true rfl, Nat.le_of_ble_eq_true rfl⟩ rfl rfl rfl rfl hl.1 (Nat.le_of_ble_eq_true rfl) ⟨Nat.zero_le _, Nat.zero_le _⟩ dX0_forced_107 (fun r u H locs hw hP hD hS => ?_)
                    subst hw
                    refine lv_iload_n hx hb dX0_forced_110 rfl (lv_at hl 8 rfl) ?_
                    refine lv_icmp_eq (tgt := 128) hx hb dX0_forced_111 (by decide) (fun cc9 => absurd cc9 c96) (fun _ => ?_)
                    refine lv_iload hx hb dX0_forced_114 (lv_at hl 0 rfl) ?_
                    refine lv_if_eq (tgt := 128) hx hb dX0_forced_116 (by decide) (fun cc9 => absurd cc9 (by decide)) (fun _ => ?_)
                    refine lv_iload hx hb dX0_forced_119 (lv_at hl 4 rfl) ?_
                    refine lv_iconst (v := 1) hx hb dX0_forced_121 (by decide) ?_
                    refine lv_iload hx hb dX0_forced_122 (lv_at hl 3 rfl) ?_
                    refine lv_ishl hx hb dX0_forced_124 ?_
                    refine lv_ior hx hb dX0_forced_125 ?_
                    refine lv_istore (lv' := [(4, .int ((fps one F S pl am x x q) ||| ((1 : Int32) <<< ((nI q) &&& 31)))), (10, .int 1), (9, .int 1), (8, .int ((mvs F S q) &&& am)), (7, .int (nI q)), (5, .int x), (6, .int (nI k)), (0, .ref (ad 0)), (1, .int pl), (2, .int tg), (3, .int am)]) hx hb dX0_forced_126 hl (by decide) rfl (fun ls hl => ?_)
                    refine lv_iinc (v := nI (q + 1)) (lv' := [(7, .int (nI (q + 1))), (4, .int ((fps one F S pl am x x q) ||| ((1 : Int32) <<< ((nI q) &&& 31)))), (10, .int 1), (9, .int 1), (8, .int ((mvs F S q) &&& am)), (5, .int x), (6, .int (nI k)), (0, .ref (ad 0)), (1, .int pl), (2, .int tg), (3, .int am)]) hx hb dX0_forced_128 hl (k := 4) rfl (nI_i1 _) (by decide) rfl (fun ls hl => ?_)
                    refine lv_goto (tgt := 30) hx hb dX0_forced_131 (by decide) ?_
                    have e9 : fps one F S pl am x x (q + 1) = (fps one F S pl am x x q) ||| ((1 : Int32) <<< ((nI q) &&& 31)) := fps_t ⟨(xb_t _ (by omega)).mp c44, Or.inr ⟨c96, c79⟩⟩
                    exact ih2 (q + 1) (by omega) H locs ls hP hD hS (by rw [e9]; exact lv_sub hl [0, 1, 5, 6, 7, 8, 9, 10] rfl)
                  · refine lv_iload hx hb dX0_forced_99 (lv_at hl 1 rfl) ?_
                    refine lv_if_ne (tgt := 119) hx hb dX0_forced_101 (by decide) (fun _ => ?_) (fun cc9 => absurd cc9 (by decide))
                    refine lv_iload hx hb dX0_forced_119 (lv_at hl 4 rfl) ?_
                    refine lv_iconst (v := 1) hx hb dX0_forced_121 (by decide) ?_
                    refine lv_iload hx hb dX0_forced_122 (lv_at hl 3 rfl) ?_
                    refine lv_ishl hx hb dX0_forced_124 ?_
                    refine lv_ior hx hb dX0_forced_125 ?_
                    refine lv_istore (lv' := [(4, .int ((fps one F S pl am x x q) ||| ((1 : Int32) <<< ((nI q) &&& 31)))), (10, .int 1), (9, .int 1), (8, .int ((mvs F S q) &&& am)), (7, .int (nI q)), (5, .int x), (6, .int (nI k)), (0, .ref (ad 0)), (1, .int pl), (2, .int tg), (3, .int am)]) hx hb dX0_forced_126 hl (by decide) rfl (fun ls hl => ?_)
                    refine lv_iinc (v := nI (q + 1)) (lv' := [(7, .int (nI (q + 1))), (4, .int ((fps one F S pl am x x q) ||| ((1 : Int32) <<< ((nI q) &&& 31)))), (10, .int 1), (9, .int 1), (8, .int ((mvs F S q) &&& am)), (5, .int x), (6, .int (nI k)), (0, .ref (ad 0)), (1, .int pl), (2, .int tg), (3, .int am)]) hx hb dX0_forced_128 hl (k := 4) rfl (nI_i1 _) (by decide) rfl (fun ls hl => ?_)
                    refine lv_goto (tgt := 30) hx hb dX0_forced_131 (by decide) ?_
                    have e9 : fps one F S pl am x x (q + 1) = (fps one F S pl am x x q) ||| ((1 : Int32) <<< ((nI q) &&& 31)) := fps_t ⟨(xb_t _ (by omega)).mp c44, Or.inl ⟨c96, c62⟩⟩
                    exact ih2 (q + 1) (by omega) H locs ls hP hD hS (by rw [e9]; exact lv_sub hl [0, 1, 5, 6, 7, 8, 9, 10] rfl)
        exact lpi 8 0 rfl _ _ ls hP hD hS (lv_sub hl [0, 3, 1, 2, 4, 5, 6, 7] rfl)
  exact lpo 9 0 tg 0 rfl rfl _ _ ls hP hD hS (lv_sub hl [0, 1, 2, 3, 4, 5, 6] rfl)
set_option maxHeartbeats 4000000 in
set_option maxRecDepth 100000 in
theorem m0_begin0 (l : Launch) (D : va_G) (ad : Nat → Nat) (d : ClassId) (one : Int32) (C F S L T G V R : Nat → Int32) (j : Nat) (hj : j < 11) (h0 : L j = 0) : CV l yX0_begin cX0_begin 6 2 51 D d [.ref (ad 0), .int (nI j)] (wG ad d one (nI (j + 1)) C F S L T G V R) (fun (_ : Unit) => True) (fun (_ : Unit) => wG ad d one (nI j) C F S L T G (upd (upd V 0 0) 1 0) R) := by
  refine CV_of (by decide) (Nat.le_of_ble_eq_true rfl) (fun p e s m below meth c A Q ls E hret => ?_)
  obtain ⟨hx, hb, hml, hown, hts, hA, hK, hP, hD, hS, hl⟩ := E
  have hown : s.vm.findClass RX0 = some m.cls := hown
  have hl : lv_has ls 6 [(0, .ref (ad 0)), (1, .int (nI j))] := hl
  refine lv_aload_n hx hb dX0_begin_0 rfl (lv_at hl 0 rfl) ?_
  refine x_g0 5 19 hx hb hown hts hK hP (by decide) q36 rfl rfl dX0_begin_1 ?_
  refine lv_iload_n hx hb dX0_begin_4 rfl (lv_at hl 1 rfl) ?_
  refine x_ald j rfl 4 (by omega) (by decide) hx hb hK hP rfl dX0_begin_5 ?_
  refine lv_istore_n (lv' := [(2, .int (L j)), (0, .ref (ad 0)), (1, .int (nI j))]) hx hb dX0_begin_6 rfl hl (by decide) rfl (fun ls hl => ?_)
  refine lv_iload_n hx hb dX0_begin_7 rfl (lv_at hl 0 rfl) ?_
  refine lv_if_ne (tgt := 36) hx hb dX0_begin_8 (by decide) (fun cc9 => absurd h0 cc9) (fun _ => ?_)
  refine lv_aload_n hx hb dX0_begin_11 rfl (lv_at hl 1 rfl) ?_
  refine x_g0 8 28 hx hb hown hts hK hP (by decide) q39 rfl rfl dX0_begin_12 ?_
  refine lv_iconst (v := 0) hx hb dX0_begin_15 (by decide) ?_
  refine lv_iconst (v := 0) hx hb dX0_begin_16 (by decide) ?_
  refine x_ast 0 rfl 7 (by decide) (by decide) hx hb hK hP hD hS rfl dX0_begin_17 (fun H locs hP hD hS => ?_)
  have hP : va_P D vwCl (wG ad d one (nI (j + 1)) C F S L T G (upd V 0 0) R) H := hP
  have hD : va_D A (wG ad d one (nI (j + 1)) C F S L T G (upd V 0 0) R) := hD
  refine lv_aload_n hx hb dX0_begin_18 rfl (lv_at hl 1 rfl) ?_
  refine x_g0 8 28 hx hb hown hts hK hP (by decide) q39 rfl rfl dX0_begin_19 ?_
  refine lv_iconst (v := 1) hx hb dX0_begin_22 (by decide) ?_
  refine lv_iconst (v := 0) hx hb dX0_begin_23 (by decide) ?_
  refine x_ast 1 rfl 7 (by decide) (by decide) hx hb hK hP hD hS rfl dX0_begin_24 (fun H locs hP hD hS => ?_)
  have hP : va_P D vwCl (wG ad d one (nI (j + 1)) C F S L T G (upd (upd V 0 0) 1 0) R) H := hP
  have hD : va_D A (wG ad d one (nI (j + 1)) C F S L T G (upd (upd V 0 0) 1 0) R) := hD
  refine lv_aload_n hx hb dX0_begin_25 rfl (lv_at hl 1 rfl) ?_
  refine lv_dup hx hb dX0_begin_26 rfl ?_
  refine x_g0 4 49 hx hb hown hts hK hP (by decide) q35 rfl rfl dX0_begin_27 ?_
  refine lv_iconst (v := 1) hx hb dX0_begin_30 (by decide) ?_
  refine lv_isub hx hb dX0_begin_31 ?_
  refine x_p0 4 49 hx hb hown hts hK hP hD hS (by decide) q35 rfl rfl (by decide +kernel) (Nat.le_of_ble_eq_true rfl) dX0_begin_32 (fun H locs hP hD hS => ?_)
  have hP : va_P D vwCl (wG ad d one ((nI (j + 1)) - 1) C F S L T G (upd (upd V 0 0) 1 0) R) H := hP
  have hD : va_D A (wG ad d one ((nI (j + 1)) - 1) C F S L T G (upd (upd V 0 0) 1 0) R) := hD
  rw [nI_im1] at hP hD
  exact hret _ _ _ _ () dX0_begin_35 trivial hP hD hS
set_option maxHeartbeats 4000000 in
set_option maxRecDepth 100000 in
theorem m0_begin1 (l : Launch) (D : va_G) (ad : Nat → Nat) (d : ClassId) (one : Int32) (C F S L T G V R : Nat → Int32) (j : Nat) (hj : j < 11) (h0 : ¬ L j = 0) : CV l yX0_begin cX0_begin 6 2 51 D d [.ref (ad 0), .int (nI j)] (wG ad d one (nI (j + 1)) C F S L T G V R) (fun (_ : Unit) => True) (fun (_ : Unit) => wG ad d one (nI (j + 2)) C F S (upd L (j + 1) (L j &&& (zA one C F S (L j) ^^^ (-1)))) (upd (upd T j 1) (j + 1) 0) G V R) := by
  refine CV_of (by decide) (Nat.le_of_ble_eq_true rfl) (fun p e s m below meth c A Q ls E hret => ?_)
  obtain ⟨hx, hb, hml, hown, hts, hA, hK, hP, hD, hS, hl⟩ := E
  have hown : s.vm.findClass RX0 = some m.cls := hown
  have hl : lv_has ls 6 [(0, .ref (ad 0)), (1, .int (nI j))] := hl
  refine lv_aload_n hx hb dX0_begin_0 rfl (lv_at hl 0 rfl) ?_
  refine x_g0 5 19 hx hb hown hts hK hP (by decide) q36 rfl rfl dX0_begin_1 ?_
  refine lv_iload_n hx hb dX0_begin_4 rfl (lv_at hl 1 rfl) ?_
  refine x_ald j rfl 4 (by omega) (by decide) hx hb hK hP rfl dX0_begin_5 ?_
  refine lv_istore_n (lv' := [(2, .int (L j)), (0, .ref (ad 0)), (1, .int (nI j))]) hx hb dX0_begin_6 rfl hl (by decide) rfl (fun ls hl => ?_)
  refine lv_iload_n hx hb dX0_begin_7 rfl (lv_at hl 0 rfl) ?_
  refine lv_if_ne (tgt := 36) hx hb dX0_begin_8 (by decide) (fun _ => ?_) (fun cc9 => absurd cc9 h0)
  refine lv_aload_n hx hb dX0_begin_36 rfl (lv_at hl 1 rfl) ?_
  refine lv_iload_n hx hb dX0_begin_37 rfl (lv_at hl 0 rfl) ?_
  refine x_vi [.int (L j)] [] 1 (m0_greatest l D ad d one (nI (j + 1)) C F S L T G V R (L j)) hx hb hml hown hts hA hK hP hD hS (lw_V q102 q104 qs4 q21 q105) (by decide +kernel) rfl ⟨Nat.le_of_ble_eq_true rfl, Nat.le_of_ble_eq_true rfl⟩ rfl rfl rfl rfl hl.1 (Nat.le_of_ble_eq_true rfl) ⟨Nat.zero_le _, Nat.zero_le _⟩ dX0_begin_38 (fun r u H locs hw hP hD hS => ?_)
  subst hw
  refine lv_istore_n (lv' := [(3, .int (gre C (L j) 8)), (2, .int (L j)), (0, .ref (ad 0)), (1, .int (nI j))]) hx hb dX0_begin_41 rfl hl (by decide) rfl (fun ls hl => ?_)
  refine lv_aload_n hx hb dX0_begin_42 rfl (lv_at hl 2 rfl) ?_
  refine lv_iload_n hx hb dX0_begin_43 rfl (lv_at hl 1 rfl) ?_
  refine lv_iload_n hx hb dX0_begin_44 rfl (lv_at hl 0 rfl) ?_
  refine x_vi [.int (L j), .int (gre C (L j) 8)] [] 2 (m0_withColour l D ad d one (nI (j + 1)) C F S L T G V R (L j) (gre C (L j) 8)) hx hb hml hown hts hA hK hP hD hS (lw_V q106 q108 qs5 q21 q109) (by decide +kernel) rfl ⟨Nat.le_of_ble_eq_true rfl, Nat.le_of_ble_eq_true rfl⟩ rfl rfl rfl rfl hl.1 (Nat.le_of_ble_eq_true rfl) ⟨Nat.zero_le _, Nat.zero_le _⟩ dX0_begin_45 (fun r u H locs hw hP hD hS => ?_)
  subst hw
  refine lv_istore (lv' := [(4, .int (wcl C (L j) (gre C (L j) 8) 8)), (3, .int (gre C (L j) 8)), (2, .int (L j)), (0, .ref (ad 0)), (1, .int (nI j))]) hx hb dX0_begin_48 hl (by decide) rfl (fun ls hl => ?_)
  refine lv_aload_n hx hb dX0_begin_50 rfl (lv_at hl 3 rfl) ?_
  refine lv_iload_n hx hb dX0_begin_51 rfl (lv_at hl 1 rfl) ?_
  refine lv_iconst (v := 1) hx hb dX0_begin_52 (by decide) ?_
  refine lv_iand hx hb dX0_begin_53 ?_
  refine lv_iload hx hb dX0_begin_54 (lv_at hl 0 rfl) ?_
  refine lv_iload_n hx hb dX0_begin_56 rfl (lv_at hl 2 rfl) ?_
  refine x_vi [.int ((gre C (L j) 8) &&& 1), .int (wcl C (L j) (gre C (L j) 8) 8), .int (L j)] [] 3 (m0_forced l D ad d one (nI (j + 1)) C F S L T G V R ((gre C (L j) 8) &&& 1) (wcl C (L j) (gre C (L j) 8) 8) (L j)) hx hb hml hown hts hA hK hP hD hS (lw_V q110 q112 qs6 q21 q113) (by decide +kernel) rfl ⟨Nat.le_of_ble_eq_true rfl, Nat.le_of_ble_eq_true rfl⟩ rfl rfl rfl rfl hl.1 (Nat.le_of_ble_eq_true rfl) ⟨Nat.zero_le _, Nat.zero_le _⟩ dX0_begin_57 (fun r u H locs hw hP hD hS => ?_)
  have hw : r = zA one C F S (L j) := by rw [hw, pn_and]; rfl
  subst hw
  refine lv_istore (lv' := [(5, .int (zA one C F S (L j))), (4, .int (wcl C (L j) (gre C (L j) 8) 8)), (3, .int (gre C (L j) 8)), (2, .int (L j)), (0, .ref (ad 0)), (1, .int (nI j))]) hx hb dX0_begin_60 hl (by decide) rfl (fun ls hl => ?_)
  refine lv_aload_n hx hb dX0_begin_62 rfl (lv_at hl 4 rfl) ?_
  refine x_g0 6 22 hx hb hown hts hK hP (by decide) q37 rfl rfl dX0_begin_63 ?_
  refine lv_iload_n hx hb dX0_begin_66 rfl (lv_at hl 5 rfl) ?_
  refine lv_iconst (v := 1) hx hb dX0_begin_67 (by decide) ?_
  refine x_ast j rfl 5 (by omega) (by decide) hx hb hK hP hD hS rfl dX0_begin_68 (fun H locs hP hD hS => ?_)
  have hP : va_P D vwCl (wG ad d one (nI (j + 1)) C F S L (upd T j 1) G V R) H := hP
  have hD : va_D A (wG ad d one (nI (j + 1)) C F S L (upd T j 1) G V R) := hD
  refine lv_aload_n hx hb dX0_begin_69 rfl (lv_at hl 4 rfl) ?_
  refine lv_iload_n hx hb dX0_begin_70 rfl (lv_at hl 3 rfl) ?_
  refine lv_iload hx hb dX0_begin_71 (lv_at hl 0 rfl) ?_
  refine lv_iconst (v := (-1)) hx hb dX0_begin_73 (by decide) ?_
  refine lv_ixor hx hb dX0_begin_74 ?_
  refine lv_iand hx hb dX0_begin_75 ?_
  refine x_vv [.int ((L j) &&& ((zA one C F S (L j)) ^^^ (-1)))] [] 1 (m0_push l D ad d one C F S L (upd T j 1) G V R (j + 1) (by omega) ((L j) &&& ((zA one C F S (L j)) ^^^ (-1)))) hx hb hml hown hts hA hK hP hD hS (lw_V q94 q96 qs2 q21 q97) (by decide +kernel) rfl ⟨Nat.le_of_ble_eq_true rfl, Nat.le_of_ble_eq_true rfl⟩ rfl rfl rfl rfl hl.1 (Nat.le_of_ble_eq_true rfl) ⟨Nat.zero_le _, Nat.zero_le _⟩ dX0_begin_76 (fun u H locs hw hP hD hS => ?_)
  have hP : va_P D vwCl (wG ad d one (nI (j + 2)) C F S (upd L (j + 1) ((L j) &&& ((zA one C F S (L j)) ^^^ (-1)))) (upd (upd T j 1) (j + 1) 0) G V R) H := hP
  have hD : va_D A (wG ad d one (nI (j + 2)) C F S (upd L (j + 1) ((L j) &&& ((zA one C F S (L j)) ^^^ (-1)))) (upd (upd T j 1) (j + 1) 0) G V R) := hD
  exact hret _ _ _ _ () dX0_begin_79 trivial hP hD hS
set_option maxHeartbeats 4000000 in
set_option maxRecDepth 100000 in
theorem m0_goOn0 (l : Launch) (D : va_G) (ad : Nat → Nat) (d : ClassId) (one : Int32) (C F S L T G V R : Nat → Int32) (j : Nat) (hj : j < 11) (h0 : V (1 - pn (gre C (L j) 8)) = 0) : CV l yX0_goOn cX0_goOn 6 2 51 D d [.ref (ad 0), .int (nI j)] (wG ad d one (nI (j + 1)) C F S L T G V R) (fun (_ : Unit) => True) (fun (_ : Unit) => wG ad d one (nI j) C F S L T G (upd V (pn (gre C (L j) 8)) (L j)) R) := by
  refine CV_of (by decide) (Nat.le_of_ble_eq_true rfl) (fun p e s m below meth c A Q ls E hret => ?_)
  obtain ⟨hx, hb, hml, hown, hts, hA, hK, hP, hD, hS, hl⟩ := E
  have hown : s.vm.findClass RX0 = some m.cls := hown
  have hl : lv_has ls 6 [(0, .ref (ad 0)), (1, .int (nI j))] := hl
  refine lv_aload_n hx hb dX0_goOn_0 rfl (lv_at hl 0 rfl) ?_
  refine x_g0 5 19 hx hb hown hts hK hP (by decide) q36 rfl rfl dX0_goOn_1 ?_
  refine lv_iload_n hx hb dX0_goOn_4 rfl (lv_at hl 1 rfl) ?_
  refine x_ald j rfl 4 (by omega) (by decide) hx hb hK hP rfl dX0_goOn_5 ?_
  refine lv_istore_n (lv' := [(2, .int (L j)), (0, .ref (ad 0)), (1, .int (nI j))]) hx hb dX0_goOn_6 rfl hl (by decide) rfl (fun ls hl => ?_)
  refine lv_aload_n hx hb dX0_goOn_7 rfl (lv_at hl 1 rfl) ?_
  refine lv_iload_n hx hb dX0_goOn_8 rfl (lv_at hl 0 rfl) ?_
  refine x_vi [.int (L j)] [] 1 (m0_greatest l D ad d one (nI (j + 1)) C F S L T G V R (L j)) hx hb hml hown hts hA hK hP hD hS (lw_V q102 q104 qs4 q21 q105) (by decide +kernel) rfl ⟨Nat.le_of_ble_eq_true rfl, Nat.le_of_ble_eq_true rfl⟩ rfl rfl rfl rfl hl.1 (Nat.le_of_ble_eq_true rfl) ⟨Nat.zero_le _, Nat.zero_le _⟩ dX0_goOn_9 (fun r u H locs hw hP hD hS => ?_)
  subst hw
  refine lv_iconst (v := 1) hx hb dX0_goOn_12 (by decide) ?_
  refine lv_iand hx hb dX0_goOn_13 ?_
  rw [pn_and]
  refine lv_istore_n (lv' := [(3, .int (nI (pn (gre C (L j) 8)))), (2, .int (L j)), (0, .ref (ad 0)), (1, .int (nI j))]) hx hb dX0_goOn_14 rfl hl (by decide) rfl (fun ls hl => ?_)
  refine lv_aload_n hx hb dX0_goOn_15 rfl (lv_at hl 2 rfl) ?_
  refine x_g0 8 28 hx hb hown hts hK hP (by decide) q39 rfl rfl dX0_goOn_16 ?_
  refine lv_iconst (v := 1) hx hb dX0_goOn_19 (by decide) ?_
  refine lv_iload_n hx hb dX0_goOn_20 rfl (lv_at hl 0 rfl) ?_
  refine lv_isub hx hb dX0_goOn_21 ?_
  rw [pn_sub]
  refine x_ald (1 - pn (gre C (L j) 8)) rfl 7 (by omega) (by decide) hx hb hK hP rfl dX0_goOn_22 ?_
  refine lv_istore (lv' := [(4, .int (V (1 - pn (gre C (L j) 8)))), (3, .int (nI (pn (gre C (L j) 8)))), (2, .int (L j)), (0, .ref (ad 0)), (1, .int (nI j))]) hx hb dX0_goOn_23 hl (by decide) rfl (fun ls hl => ?_)
  refine lv_iload hx hb dX0_goOn_25 (lv_at hl 0 rfl) ?_
  refine lv_if_ne (tgt := 48) hx hb dX0_goOn_27 (by decide) (fun cc9 => absurd h0 cc9) (fun _ => ?_)
  refine lv_aload_n hx hb dX0_goOn_30 rfl (lv_at hl 3 rfl) ?_
  refine x_g0 8 28 hx hb hown hts hK hP (by decide) q39 rfl rfl dX0_goOn_31 ?_
  refine lv_iload_n hx hb dX0_goOn_34 rfl (lv_at hl 1 rfl) ?_
  refine lv_iload_n hx hb dX0_goOn_35 rfl (lv_at hl 2 rfl) ?_
  refine x_ast (pn (gre C (L j) 8)) rfl 7 (pn_lt _) (by decide) hx hb hK hP hD hS rfl dX0_goOn_36 (fun H locs hP hD hS => ?_)
  have hP : va_P D vwCl (wG ad d one (nI (j + 1)) C F S L T G (upd V (pn (gre C (L j) 8)) (L j)) R) H := hP
  have hD : va_D A (wG ad d one (nI (j + 1)) C F S L T G (upd V (pn (gre C (L j) 8)) (L j)) R) := hD
  refine lv_aload_n hx hb dX0_goOn_37 rfl (lv_at hl 3 rfl) ?_
  refine lv_dup hx hb dX0_goOn_38 rfl ?_
  refine x_g0 4 49 hx hb hown hts hK hP (by decide) q35 rfl rfl dX0_goOn_39 ?_
  refine lv_iconst (v := 1) hx hb dX0_goOn_42 (by decide) ?_
  refine lv_isub hx hb dX0_goOn_43 ?_
  refine x_p0 4 49 hx hb hown hts hK hP hD hS (by decide) q35 rfl rfl (by decide +kernel) (Nat.le_of_ble_eq_true rfl) dX0_goOn_44 (fun H locs hP hD hS => ?_)
  have hP : va_P D vwCl (wG ad d one ((nI (j + 1)) - 1) C F S L T G (upd V (pn (gre C (L j) 8)) (L j)) R) H := hP
  have hD : va_D A (wG ad d one ((nI (j + 1)) - 1) C F S L T G (upd V (pn (gre C (L j) 8)) (L j)) R) := hD
  rw [nI_im1] at hP hD
  exact hret _ _ _ _ () dX0_goOn_47 trivial hP hD hS
set_option maxHeartbeats 4000000 in
set_option maxRecDepth 100000 in
theorem m0_goOn1 (l : Launch) (D : va_G) (ad : Nat → Nat) (d : ClassId) (one : Int32) (C F S L T G V R : Nat → Int32) (j : Nat) (hj : j < 11) (h0 : ¬ V (1 - pn (gre C (L j) 8)) = 0) : CV l yX0_goOn cX0_goOn 6 2 51 D d [.ref (ad 0), .int (nI j)] (wG ad d one (nI (j + 1)) C F S L T G V R) (fun (_ : Unit) => True) (fun (_ : Unit) => wG ad d one (nI (j + 2)) C F S (upd L (j + 1) (L j &&& (zB one C F S (L j) (V (1 - pn (gre C (L j) 8))) ^^^ (-1)))) (upd (upd T j 2) (j + 1) 0) (upd G j (zB one C F S (L j) (V (1 - pn (gre C (L j) 8))))) V R) := by
  refine CV_of (by decide) (Nat.le_of_ble_eq_true rfl) (fun p e s m below meth c A Q ls E hret => ?_)
  obtain ⟨hx, hb, hml, hown, hts, hA, hK, hP, hD, hS, hl⟩ := E
  have hown : s.vm.findClass RX0 = some m.cls := hown
  have hl : lv_has ls 6 [(0, .ref (ad 0)), (1, .int (nI j))] := hl
  refine lv_aload_n hx hb dX0_goOn_0 rfl (lv_at hl 0 rfl) ?_
  refine x_g0 5 19 hx hb hown hts hK hP (by decide) q36 rfl rfl dX0_goOn_1 ?_
  refine lv_iload_n hx hb dX0_goOn_4 rfl (lv_at hl 1 rfl) ?_
  refine x_ald j rfl 4 (by omega) (by decide) hx hb hK hP rfl dX0_goOn_5 ?_
  refine lv_istore_n (lv' := [(2, .int (L j)), (0, .ref (ad 0)), (1, .int (nI j))]) hx hb dX0_goOn_6 rfl hl (by decide) rfl (fun ls hl => ?_)
  refine lv_aload_n hx hb dX0_goOn_7 rfl (lv_at hl 1 rfl) ?_
  refine lv_iload_n hx hb dX0_goOn_8 rfl (lv_at hl 0 rfl) ?_
  refine x_vi [.int (L j)] [] 1 (m0_greatest l D ad d one (nI (j + 1)) C F S L T G V R (L j)) hx hb hml hown hts hA hK hP hD hS (lw_V q102 q104 qs4 q21 q105) (by decide +kernel) rfl ⟨Nat.le_of_ble_eq_true rfl, Nat.le_of_ble_eq_true rfl⟩ rfl rfl rfl rfl hl.1 (Nat.le_of_ble_eq_true rfl) ⟨Nat.zero_le _, Nat.zero_le _⟩ dX0_goOn_9 (fun r u H locs hw hP hD hS => ?_)
  subst hw
  refine lv_iconst (v := 1) hx hb dX0_goOn_12 (by decide) ?_
  refine lv_iand hx hb dX0_goOn_13 ?_
  rw [pn_and]
  refine lv_istore_n (lv' := [(3, .int (nI (pn (gre C (L j) 8)))), (2, .int (L j)), (0, .ref (ad 0)), (1, .int (nI j))]) hx hb dX0_goOn_14 rfl hl (by decide) rfl (fun ls hl => ?_)
  refine lv_aload_n hx hb dX0_goOn_15 rfl (lv_at hl 2 rfl) ?_
  refine x_g0 8 28 hx hb hown hts hK hP (by decide) q39 rfl rfl dX0_goOn_16 ?_
  refine lv_iconst (v := 1) hx hb dX0_goOn_19 (by decide) ?_
  refine lv_iload_n hx hb dX0_goOn_20 rfl (lv_at hl 0 rfl) ?_
  refine lv_isub hx hb dX0_goOn_21 ?_
  rw [pn_sub]
  refine x_ald (1 - pn (gre C (L j) 8)) rfl 7 (by omega) (by decide) hx hb hK hP rfl dX0_goOn_22 ?_
  refine lv_istore (lv' := [(4, .int (V (1 - pn (gre C (L j) 8)))), (3, .int (nI (pn (gre C (L j) 8)))), (2, .int (L j)), (0, .ref (ad 0)), (1, .int (nI j))]) hx hb dX0_goOn_23 hl (by decide) rfl (fun ls hl => ?_)
  refine lv_iload hx hb dX0_goOn_25 (lv_at hl 0 rfl) ?_
  refine lv_if_ne (tgt := 48) hx hb dX0_goOn_27 (by decide) (fun _ => ?_) (fun cc9 => absurd cc9 h0)
  refine lv_aload_n hx hb dX0_goOn_48 rfl (lv_at hl 3 rfl) ?_
  refine lv_iconst (v := 1) hx hb dX0_goOn_49 (by decide) ?_
  refine lv_iload_n hx hb dX0_goOn_50 rfl (lv_at hl 1 rfl) ?_
  refine lv_isub hx hb dX0_goOn_51 ?_
  rw [pn_sub]
  refine lv_iload hx hb dX0_goOn_52 (lv_at hl 0 rfl) ?_
  refine lv_iload_n hx hb dX0_goOn_54 rfl (lv_at hl 2 rfl) ?_
  refine x_vi [.int (nI (1 - pn (gre C (L j) 8))), .int (V (1 - pn (gre C (L j) 8))), .int (L j)] [] 3 (m0_forced l D ad d one (nI (j + 1)) C F S L T G V R (nI (1 - pn (gre C (L j) 8))) (V (1 - pn (gre C (L j) 8))) (L j)) hx hb hml hown hts hA hK hP hD hS (lw_V q110 q112 qs6 q21 q113) (by decide +kernel) rfl ⟨Nat.le_of_ble_eq_true rfl, Nat.le_of_ble_eq_true rfl⟩ rfl rfl rfl rfl hl.1 (Nat.le_of_ble_eq_true rfl) ⟨Nat.zero_le _, Nat.zero_le _⟩ dX0_goOn_55 (fun r u H locs hw hP hD hS => ?_)
  have hw : r = zB one C F S (L j) (V (1 - pn (gre C (L j) 8))) := hw
  subst hw
  refine lv_istore (lv' := [(5, .int (zB one C F S (L j) (V (1 - pn (gre C (L j) 8))))), (4, .int (V (1 - pn (gre C (L j) 8)))), (3, .int (nI (pn (gre C (L j) 8)))), (2, .int (L j)), (0, .ref (ad 0)), (1, .int (nI j))]) hx hb dX0_goOn_58 hl (by decide) rfl (fun ls hl => ?_)
  refine lv_aload_n hx hb dX0_goOn_60 rfl (lv_at hl 4 rfl) ?_
  refine x_g0 7 25 hx hb hown hts hK hP (by decide) q38 rfl rfl dX0_goOn_61 ?_
  refine lv_iload_n hx hb dX0_goOn_64 rfl (lv_at hl 5 rfl) ?_
  refine lv_iload hx hb dX0_goOn_65 (lv_at hl 0 rfl) ?_
  refine x_ast j rfl 6 (by omega) (by decide) hx hb hK hP hD hS rfl dX0_goOn_67 (fun H locs hP hD hS => ?_)
  have hP : va_P D vwCl (wG ad d one (nI (j + 1)) C F S L T (upd G j (zB one C F S (L j) (V (1 - pn (gre C (L j) 8))))) V R) H := hP
  have hD : va_D A (wG ad d one (nI (j + 1)) C F S L T (upd G j (zB one C F S (L j) (V (1 - pn (gre C (L j) 8))))) V R) := hD
  refine lv_aload_n hx hb dX0_goOn_68 rfl (lv_at hl 4 rfl) ?_
  refine x_g0 6 22 hx hb hown hts hK hP (by decide) q37 rfl rfl dX0_goOn_69 ?_
  refine lv_iload_n hx hb dX0_goOn_72 rfl (lv_at hl 5 rfl) ?_
  refine lv_iconst (v := 2) hx hb dX0_goOn_73 (by decide) ?_
  refine x_ast j rfl 5 (by omega) (by decide) hx hb hK hP hD hS rfl dX0_goOn_74 (fun H locs hP hD hS => ?_)
  have hP : va_P D vwCl (wG ad d one (nI (j + 1)) C F S L (upd T j 2) (upd G j (zB one C F S (L j) (V (1 - pn (gre C (L j) 8))))) V R) H := hP
  have hD : va_D A (wG ad d one (nI (j + 1)) C F S L (upd T j 2) (upd G j (zB one C F S (L j) (V (1 - pn (gre C (L j) 8))))) V R) := hD
  refine lv_aload_n hx hb dX0_goOn_75 rfl (lv_at hl 4 rfl) ?_
  refine lv_iload_n hx hb dX0_goOn_76 rfl (lv_at hl 3 rfl) ?_
  refine lv_iload hx hb dX0_goOn_77 (lv_at hl 0 rfl) ?_
  refine lv_iconst (v := (-1)) hx hb dX0_goOn_79 (by decide) ?_
  refine lv_ixor hx hb dX0_goOn_80 ?_
  refine lv_iand hx hb dX0_goOn_81 ?_
  refine x_vv [.int ((L j) &&& ((zB one C F S (L j) (V (1 - pn (gre C (L j) 8)))) ^^^ (-1)))] [] 1 (m0_push l D ad d one C F S L (upd T j 2) (upd G j (zB one C F S (L j) (V (1 - pn (gre C (L j) 8))))) V R (j + 1) (by omega) ((L j) &&& ((zB one C F S (L j) (V (1 - pn (gre C (L j) 8)))) ^^^ (-1)))) hx hb hml hown hts hA hK hP hD hS (lw_V q94 q96 qs2 q21 q97) (by decide +kernel) rfl ⟨Nat.le_of_ble_eq_true rfl, Nat.le_of_ble_eq_true rfl⟩ rfl rfl rfl rfl hl.1 (Nat.le_of_ble_eq_true rfl) ⟨Nat.zero_le _, Nat.zero_le _⟩ dX0_goOn_82 (fun u H locs hw hP hD hS => ?_)
  have hP : va_P D vwCl (wG ad d one (nI (j + 2)) C F S (upd L (j + 1) ((L j) &&& ((zB one C F S (L j) (V (1 - pn (gre C (L j) 8)))) ^^^ (-1)))) (upd (upd T j 2) (j + 1) 0) (upd G j (zB one C F S (L j) (V (1 - pn (gre C (L j) 8))))) V R) H := hP
  have hD : va_D A (wG ad d one (nI (j + 2)) C F S (upd L (j + 1) ((L j) &&& ((zB one C F S (L j) (V (1 - pn (gre C (L j) 8)))) ^^^ (-1)))) (upd (upd T j 2) (j + 1) 0) (upd G j (zB one C F S (L j) (V (1 - pn (gre C (L j) 8))))) V R) := hD
  exact hret _ _ _ _ () dX0_goOn_85 trivial hP hD hS
set_option maxHeartbeats 4000000 in
set_option maxRecDepth 100000 in
theorem m0_finish (l : Launch) (D : va_G) (ad : Nat → Nat) (d : ClassId) (one : Int32) (C F S L T G V R : Nat → Int32) (j : Nat) (hj : j < 11) : CV l yX0_finish cX0_finish 3 1 23 D d [.ref (ad 0), .int (nI j)] (wG ad d one (nI (j + 1)) C F S L T G V R) (fun (_ : Unit) => True) (fun (_ : Unit) => wG ad d one (nI j) C F S L T G (upd V (1 - pn (gre C (L j) 8)) (V (1 - pn (gre C (L j) 8)) ||| G j)) R) := by
  refine CV_of (by decide) (Nat.le_of_ble_eq_true rfl) (fun p e s m below meth c A Q ls E hret => ?_)
  obtain ⟨hx, hb, hml, hown, hts, hA, hK, hP, hD, hS, hl⟩ := E
  have hown : s.vm.findClass RX0 = some m.cls := hown
  have hl : lv_has ls 3 [(0, .ref (ad 0)), (1, .int (nI j))] := hl
  refine lv_aload_n hx hb dX0_finish_0 rfl (lv_at hl 0 rfl) ?_
  refine lv_aload_n hx hb dX0_finish_1 rfl (lv_at hl 0 rfl) ?_
  refine x_g0 5 19 hx hb hown hts hK hP (by decide) q36 rfl rfl dX0_finish_2 ?_
  refine lv_iload_n hx hb dX0_finish_5 rfl (lv_at hl 1 rfl) ?_
  refine x_ald j rfl 4 (by omega) (by decide) hx hb hK hP rfl dX0_finish_6 ?_
  refine x_vi [.int (L j)] [] 1 (m0_greatest l D ad d one (nI (j + 1)) C F S L T G V R (L j)) hx hb hml hown hts hA hK hP hD hS (lw_V q102 q104 qs4 q21 q105) (by decide +kernel) rfl ⟨Nat.le_of_ble_eq_true rfl, Nat.le_of_ble_eq_true rfl⟩ rfl rfl rfl rfl hl.1 (Nat.le_of_ble_eq_true rfl) ⟨Nat.zero_le _, Nat.zero_le _⟩ dX0_finish_7 (fun r u H locs hw hP hD hS => ?_)
  subst hw
  refine lv_iconst (v := 1) hx hb dX0_finish_10 (by decide) ?_
  refine lv_iand hx hb dX0_finish_11 ?_
  rw [pn_and]
  refine lv_istore_n (lv' := [(2, .int (nI (pn (gre C (L j) 8)))), (0, .ref (ad 0)), (1, .int (nI j))]) hx hb dX0_finish_12 rfl hl (by decide) rfl (fun ls hl => ?_)
  refine lv_aload_n hx hb dX0_finish_13 rfl (lv_at hl 1 rfl) ?_
  refine x_g0 8 28 hx hb hown hts hK hP (by decide) q39 rfl rfl dX0_finish_14 ?_
  refine lv_iconst (v := 1) hx hb dX0_finish_17 (by decide) ?_
  refine lv_iload_n hx hb dX0_finish_18 rfl (lv_at hl 0 rfl) ?_
  refine lv_isub hx hb dX0_finish_19 ?_
  rw [pn_sub]
  refine lv_dup2_11 hx hb dX0_finish_20 rfl rfl ?_
  refine x_ald (1 - pn (gre C (L j) 8)) rfl 7 (by omega) (by decide) hx hb hK hP rfl dX0_finish_21 ?_
  refine lv_aload_n hx hb dX0_finish_22 rfl (lv_at hl 1 rfl) ?_
  refine x_g0 7 25 hx hb hown hts hK hP (by decide) q38 rfl rfl dX0_finish_23 ?_
  refine lv_iload_n hx hb dX0_finish_26 rfl (lv_at hl 2 rfl) ?_
  refine x_ald j rfl 6 (by omega) (by decide) hx hb hK hP rfl dX0_finish_27 ?_
  refine lv_ior hx hb dX0_finish_28 ?_
  refine x_ast (1 - pn (gre C (L j) 8)) rfl 7 (by omega) (by decide) hx hb hK hP hD hS rfl dX0_finish_29 (fun H locs hP hD hS => ?_)
  have hP : va_P D vwCl (wG ad d one (nI (j + 1)) C F S L T G (upd V (1 - pn (gre C (L j) 8)) ((V (1 - pn (gre C (L j) 8))) ||| (G j))) R) H := hP
  have hD : va_D A (wG ad d one (nI (j + 1)) C F S L T G (upd V (1 - pn (gre C (L j) 8)) ((V (1 - pn (gre C (L j) 8))) ||| (G j))) R) := hD
  refine lv_aload_n hx hb dX0_finish_30 rfl (lv_at hl 1 rfl) ?_
  refine lv_dup hx hb dX0_finish_31 rfl ?_
  refine x_g0 4 49 hx hb hown hts hK hP (by decide) q35 rfl rfl dX0_finish_32 ?_
  refine lv_iconst (v := 1) hx hb dX0_finish_35 (by decide) ?_
  refine lv_isub hx hb dX0_finish_36 ?_
  refine x_p0 4 49 hx hb hown hts hK hP hD hS (by decide) q35 rfl rfl (by decide +kernel) (Nat.le_of_ble_eq_true rfl) dX0_finish_37 (fun H locs hP hD hS => ?_)
  have hP : va_P D vwCl (wG ad d one ((nI (j + 1)) - 1) C F S L T G (upd V (1 - pn (gre C (L j) 8)) ((V (1 - pn (gre C (L j) 8))) ||| (G j))) R) H := hP
  have hD : va_D A (wG ad d one ((nI (j + 1)) - 1) C F S L T G (upd V (1 - pn (gre C (L j) 8)) ((V (1 - pn (gre C (L j) 8))) ||| (G j))) R) := hD
  rw [nI_im1] at hP hD
  exact hret _ _ _ _ () dX0_finish_40 trivial hP hD hS
theorem ar255 {own col f s : Nat → Nat} (hok : pg_ok own col f s) : zw_ar f s (fun p => bt 255 p = true) := fun p hp => ⟨f p, Or.inl rfl, (x255 _).mpr (hok p ((x255 p).mp hp)).2.2.1⟩
/-- four arrays -/
abbrev Q4 : Type := (Nat → Int32) × (Nat → Int32) × (Nat → Int32) × (Nat → Int32)
set_option maxHeartbeats 4000000 in
set_option maxRecDepth 100000 in
/-- solve(): what each player wins -/
theorem m0_solve (l : Launch) (D : va_G) (ad : Nat → Nat) (d : ClassId) (one dep : Int32) (C F S L T G V R : Nat → Int32) (own col f s : Nat → Nat) (hg : gv own col f s one C F S) : CV l yX0_solve cX0_solve 3 3 76 D d [.ref (ad 0)] (wG ad d one dep C F S L T G V R) (fun (u : Q4) => sol own col f s u.2.2.2) (fun (u : Q4) => wG ad d one (nI 0) C F S u.1 u.2.1 u.2.2.1 u.2.2.2 R) := by
  refine CV_of (by decide) (Nat.le_of_ble_eq_true rfl) (fun p e s m below meth c A Q ls E hret => ?_)
  obtain ⟨hx, hb, hml, hown, hts, hA, hK, hP, hD, hS, hl⟩ := E
  have hown : s.vm.findClass RX0 = some m.cls := hown
  have hl : lv_has ls 3 [(0, .ref (ad 0))] := hl
  refine lv_aload_n hx hb dX0_solve_0 rfl (lv_at hl 0 rfl) ?_
  refine lv_iconst (v := 0) hx hb dX0_solve_1 (by decide) ?_
  refine x_p0 4 49 hx hb hown hts hK hP hD hS (by decide) q35 rfl rfl (by decide +kernel) (Nat.le_of_ble_eq_true rfl) dX0_solve_2 (fun H locs hP hD hS => ?_)
  have hP : va_P D vwCl (wG ad d one 0 C F S L T G V R) H := hP
  have hD : va_D A (wG ad d one 0 C F S L T G V R) := hD
  have hP : va_P D vwCl (wG ad d one (nI 0) C F S L T G V R) H := hP
  have hD : va_D A (wG ad d one (nI 0) C F S L T G V R) := hD
  refine lv_aload_n hx hb dX0_solve_5 rfl (lv_at hl 0 rfl) ?_
  refine lv_sipush (v := nI 255) hx hb dX0_solve_6 (by decide) ?_
  refine x_vv [.int (nI 255)] [] 1 (m0_push l D ad d one C F S L T G V R 0 (by decide) (nI 255)) hx hb hml hown hts hA hK hP hD hS (lw_V q94 q96 qs2 q21 q97) (by decide +kernel) rfl ⟨Nat.le_of_ble_eq_true rfl, Nat.le_of_ble_eq_true rfl⟩ rfl rfl rfl rfl hl.1 (Nat.le_of_ble_eq_true rfl) ⟨Nat.zero_le _, Nat.zero_le _⟩ dX0_solve_9 (fun u H locs hw hP hD hS => ?_)
  have hP : va_P D vwCl (wG ad d one (nI (0 + 1)) C F S (upd L 0 (nI 255)) (upd T 0 0) G V R) H := hP
  have hD : va_D A (wG ad d one (nI (0 + 1)) C F S (upd L 0 (nI 255)) (upd T 0 0) G V R) := hD
  refine lv_iconst (v := 0) hx hb dX0_solve_12 (by decide) ?_
  refine lv_istore_n (lv' := [(1, .int 0), (0, .ref (ad 0))]) hx hb dX0_solve_13 rfl hl (by decide) rfl (fun ls hl => ?_)
  refine zrun hg (fun st j L T G V => ∀ (H : Heap) (locs : List Loc) (ls : Array Slot), va_P D vwCl (wG ad d one (nI j) C F S L T G V R) H → va_D A (wG ad d one (nI j) C F S L T G V R) → va_S A s.heap H locs → lv_has ls 3 [(1, .int (nI st)), (0, .ref (ad 0))] → W p l e { frames := 3, cells := 0, slots := 0, locals := 76 } s m ([.ref (ad 0)] : List Value).toArray below meth c H locs 0 0 Q (F0 m 14 ls [])) ?_ ?_ ?_ ?_ ?_ 8 255 0 0 (upd L 0 (nI 255)) (upd T 0 0) G V (xsub_rf _) (ar255 hg.1) (cd_le _) (by decide) (by decide) rfl rfl ?_ _ _ ls hP hD hS (lv_sub hl [0, 1] rfl)
  · intro st j L T G V hst hj hT h0 k H locs ls hP hD hS hl
    refine lv_iload_n hx hb dX0_solve_14 rfl (lv_at hl 0 rfl) ?_
    refine lv_sipush (v := nI 2000) hx hb dX0_solve_15 (by decide) ?_
    refine lv_icmp_ge (tgt := 81) hx hb dX0_solve_18 (by decide) (fun cc9 => absurd cc9 (nI_ge hst (by decide))) (fun _ => ?_)
    refine lv_aload_n hx hb dX0_solve_21 rfl (lv_at hl 1 rfl) ?_
    refine x_g0 4 49 hx hb hown hts hK hP (by decide) q35 rfl rfl dX0_solve_22 ?_
    refine lv_if_le (tgt := 81) hx hb dX0_solve_25 (by decide) (fun cc9 => absurd cc9 (nI_nle (by omega) (by omega))) (fun _ => ?_)
    refine lv_aload_n hx hb dX0_solve_28 rfl (lv_at hl 1 rfl) ?_
    refine x_g0 4 49 hx hb hown hts hK hP (by decide) q35 rfl rfl dX0_solve_29 ?_
    refine lv_iconst (v := 1) hx hb dX0_solve_32 (by decide) ?_
    refine lv_isub hx hb dX0_solve_33 ?_
    rw [nI_im1]
    refine lv_istore_n (lv' := [(2, .int (nI j)), (1, .int (nI st)), (0, .ref (ad 0))]) hx hb dX0_solve_34 rfl hl (by decide) rfl (fun ls hl => ?_)
    refine lv_aload_n hx hb dX0_solve_35 rfl (lv_at hl 2 rfl) ?_
    refine x_g0 6 22 hx hb hown hts hK hP (by decide) q37 rfl rfl dX0_solve_36 ?_
    refine lv_iload_n hx hb dX0_solve_39 rfl (lv_at hl 0 rfl) ?_
    refine x_ald j rfl 5 (by omega) (by decide) hx hb hK hP rfl dX0_solve_40 ?_
    refine lv_if_ne (tgt := 52) hx hb dX0_solve_41 (by decide) (fun cc9 => absurd hT cc9) (fun _ => ?_)
    refine lv_aload_n hx hb dX0_solve_44 rfl (lv_at hl 2 rfl) ?_
    refine lv_iload_n hx hb dX0_solve_45 rfl (lv_at hl 0 rfl) ?_
    refine x_vv [.int (nI j)] [] 1 (m0_begin0 l D ad d one C F S L T G V R j hj h0) hx hb hml hown hts hA hK hP hD hS (lw_V q98 q100 qs3 q21 q101) (by decide +kernel) rfl ⟨Nat.le_of_ble_eq_true rfl, Nat.le_of_ble_eq_true rfl⟩ rfl rfl rfl rfl hl.1 (Nat.le_of_ble_eq_true rfl) ⟨Nat.zero_le _, Nat.zero_le _⟩ dX0_solve_46 (fun u H locs hw hP hD hS => ?_)
    have hP : va_P D vwCl (wG ad d one (nI j) C F S L T G (upd (upd V 0 0) 1 0) R) H := hP
    have hD : va_D A (wG ad d one (nI j) C F S L T G (upd (upd V 0 0) 1 0) R) := hD
    refine lv_goto (tgt := 75) hx hb dX0_solve_49 (by decide) ?_
    refine lv_iinc (v := nI (st + 1)) (lv' := [(1, .int (nI (st + 1))), (2, .int (nI j)), (0, .ref (ad 0))]) hx hb dX0_solve_75 hl (k := 1) rfl (nI_i1 _) (by decide) rfl (fun ls hl => ?_)
    refine lv_goto (tgt := 14) hx hb dX0_solve_78 (by decide) ?_
    exact k H locs ls hP hD hS (lv_sub hl [0, 2] rfl)
  · intro st j L T G V hst hj hT h0 k H locs ls hP hD hS hl
    refine lv_iload_n hx hb dX0_solve_14 rfl (lv_at hl 0 rfl) ?_
    refine lv_sipush (v := nI 2000) hx hb dX0_solve_15 (by decide) ?_
    refine lv_icmp_ge (tgt := 81) hx hb dX0_solve_18 (by decide) (fun cc9 => absurd cc9 (nI_ge hst (by decide))) (fun _ => ?_)
    refine lv_aload_n hx hb dX0_solve_21 rfl (lv_at hl 1 rfl) ?_
    refine x_g0 4 49 hx hb hown hts hK hP (by decide) q35 rfl rfl dX0_solve_22 ?_
    refine lv_if_le (tgt := 81) hx hb dX0_solve_25 (by decide) (fun cc9 => absurd cc9 (nI_nle (by omega) (by omega))) (fun _ => ?_)
    refine lv_aload_n hx hb dX0_solve_28 rfl (lv_at hl 1 rfl) ?_
    refine x_g0 4 49 hx hb hown hts hK hP (by decide) q35 rfl rfl dX0_solve_29 ?_
    refine lv_iconst (v := 1) hx hb dX0_solve_32 (by decide) ?_
    refine lv_isub hx hb dX0_solve_33 ?_
    rw [nI_im1]
    refine lv_istore_n (lv' := [(2, .int (nI j)), (1, .int (nI st)), (0, .ref (ad 0))]) hx hb dX0_solve_34 rfl hl (by decide) rfl (fun ls hl => ?_)
    refine lv_aload_n hx hb dX0_solve_35 rfl (lv_at hl 2 rfl) ?_
    refine x_g0 6 22 hx hb hown hts hK hP (by decide) q37 rfl rfl dX0_solve_36 ?_
    refine lv_iload_n hx hb dX0_solve_39 rfl (lv_at hl 0 rfl) ?_
    refine x_ald j rfl 5 (by omega) (by decide) hx hb hK hP rfl dX0_solve_40 ?_
    refine lv_if_ne (tgt := 52) hx hb dX0_solve_41 (by decide) (fun cc9 => absurd hT cc9) (fun _ => ?_)
    refine lv_aload_n hx hb dX0_solve_44 rfl (lv_at hl 2 rfl) ?_
    refine lv_iload_n hx hb dX0_solve_45 rfl (lv_at hl 0 rfl) ?_
    refine x_vv [.int (nI j)] [] 1 (m0_begin1 l D ad d one C F S L T G V R j hj h0) hx hb hml hown hts hA hK hP hD hS (lw_V q98 q100 qs3 q21 q101) (by decide +kernel) rfl ⟨Nat.le_of_ble_eq_true rfl, Nat.le_of_ble_eq_true rfl⟩ rfl rfl rfl rfl hl.1 (Nat.le_of_ble_eq_true rfl) ⟨Nat.zero_le _, Nat.zero_le _⟩ dX0_solve_46 (fun u H locs hw hP hD hS => ?_)
    have hP : va_P D vwCl (wG ad d one (nI (j + 2)) C F S (upd L (j + 1) (L j &&& (zA one C F S (L j) ^^^ (-1)))) (upd (upd T j 1) (j + 1) 0) G V R) H := hP
    have hD : va_D A (wG ad d one (nI (j + 2)) C F S (upd L (j + 1) (L j &&& (zA one C F S (L j) ^^^ (-1)))) (upd (upd T j 1) (j + 1) 0) G V R) := hD
    refine lv_goto (tgt := 75) hx hb dX0_solve_49 (by decide) ?_
    refine lv_iinc (v := nI (st + 1)) (lv' := [(1, .int (nI (st + 1))), (2, .int (nI j)), (0, .ref (ad 0))]) hx hb dX0_solve_75 hl (k := 1) rfl (nI_i1 _) (by decide) rfl (fun ls hl => ?_)
    refine lv_goto (tgt := 14) hx hb dX0_solve_78 (by decide) ?_
    exact k H locs ls hP hD hS (lv_sub hl [0, 2] rfl)
  · intro st j L T G V hst hj hT h0 k H locs ls hP hD hS hl
    refine lv_iload_n hx hb dX0_solve_14 rfl (lv_at hl 0 rfl) ?_
    refine lv_sipush (v := nI 2000) hx hb dX0_solve_15 (by decide) ?_
    refine lv_icmp_ge (tgt := 81) hx hb dX0_solve_18 (by decide) (fun cc9 => absurd cc9 (nI_ge hst (by decide))) (fun _ => ?_)
    refine lv_aload_n hx hb dX0_solve_21 rfl (lv_at hl 1 rfl) ?_
    refine x_g0 4 49 hx hb hown hts hK hP (by decide) q35 rfl rfl dX0_solve_22 ?_
    refine lv_if_le (tgt := 81) hx hb dX0_solve_25 (by decide) (fun cc9 => absurd cc9 (nI_nle (by omega) (by omega))) (fun _ => ?_)
    refine lv_aload_n hx hb dX0_solve_28 rfl (lv_at hl 1 rfl) ?_
    refine x_g0 4 49 hx hb hown hts hK hP (by decide) q35 rfl rfl dX0_solve_29 ?_
    refine lv_iconst (v := 1) hx hb dX0_solve_32 (by decide) ?_
    refine lv_isub hx hb dX0_solve_33 ?_
    rw [nI_im1]
    refine lv_istore_n (lv' := [(2, .int (nI j)), (1, .int (nI st)), (0, .ref (ad 0))]) hx hb dX0_solve_34 rfl hl (by decide) rfl (fun ls hl => ?_)
    refine lv_aload_n hx hb dX0_solve_35 rfl (lv_at hl 2 rfl) ?_
    refine x_g0 6 22 hx hb hown hts hK hP (by decide) q37 rfl rfl dX0_solve_36 ?_
    refine lv_iload_n hx hb dX0_solve_39 rfl (lv_at hl 0 rfl) ?_
    refine x_ald j rfl 5 (by omega) (by decide) hx hb hK hP rfl dX0_solve_40 ?_
    refine lv_if_ne (tgt := 52) hx hb dX0_solve_41 (by decide) (fun _ => ?_) (fun cc9 => absurd cc9 (by rw [hT]; decide))
    refine lv_aload_n hx hb dX0_solve_52 rfl (lv_at hl 2 rfl) ?_
    refine x_g0 6 22 hx hb hown hts hK hP (by decide) q37 rfl rfl dX0_solve_53 ?_
    refine lv_iload_n hx hb dX0_solve_56 rfl (lv_at hl 0 rfl) ?_
    refine x_ald j rfl 5 (by omega) (by decide) hx hb hK hP rfl dX0_solve_57 ?_
    refine lv_iconst (v := 1) hx hb dX0_solve_58 (by decide) ?_
    refine lv_icmp_ne (tgt := 70) hx hb dX0_solve_59 (by decide) (fun cc9 => absurd hT cc9) (fun _ => ?_)
    refine lv_aload_n hx hb dX0_solve_62 rfl (lv_at hl 2 rfl) ?_
    refine lv_iload_n hx hb dX0_solve_63 rfl (lv_at hl 0 rfl) ?_
    refine x_vv [.int (nI j)] [] 1 (m0_goOn0 l D ad d one C F S L T G V R j hj h0) hx hb hml hown hts hA hK hP hD hS (lw_V q118 q120 qs8 q21 q121) (by decide +kernel) rfl ⟨Nat.le_of_ble_eq_true rfl, Nat.le_of_ble_eq_true rfl⟩ rfl rfl rfl rfl hl.1 (Nat.le_of_ble_eq_true rfl) ⟨Nat.zero_le _, Nat.zero_le _⟩ dX0_solve_64 (fun u H locs hw hP hD hS => ?_)
    have hP : va_P D vwCl (wG ad d one (nI j) C F S L T G (upd V (pn (gre C (L j) 8)) (L j)) R) H := hP
    have hD : va_D A (wG ad d one (nI j) C F S L T G (upd V (pn (gre C (L j) 8)) (L j)) R) := hD
    refine lv_goto (tgt := 75) hx hb dX0_solve_67 (by decide) ?_
    refine lv_iinc (v := nI (st + 1)) (lv' := [(1, .int (nI (st + 1))), (2, .int (nI j)), (0, .ref (ad 0))]) hx hb dX0_solve_75 hl (k := 1) rfl (nI_i1 _) (by decide) rfl (fun ls hl => ?_)
    refine lv_goto (tgt := 14) hx hb dX0_solve_78 (by decide) ?_
    exact k H locs ls hP hD hS (lv_sub hl [0, 2] rfl)
  · intro st j L T G V hst hj hT h0 k H locs ls hP hD hS hl
    refine lv_iload_n hx hb dX0_solve_14 rfl (lv_at hl 0 rfl) ?_
    refine lv_sipush (v := nI 2000) hx hb dX0_solve_15 (by decide) ?_
    refine lv_icmp_ge (tgt := 81) hx hb dX0_solve_18 (by decide) (fun cc9 => absurd cc9 (nI_ge hst (by decide))) (fun _ => ?_)
    refine lv_aload_n hx hb dX0_solve_21 rfl (lv_at hl 1 rfl) ?_
    refine x_g0 4 49 hx hb hown hts hK hP (by decide) q35 rfl rfl dX0_solve_22 ?_
    refine lv_if_le (tgt := 81) hx hb dX0_solve_25 (by decide) (fun cc9 => absurd cc9 (nI_nle (by omega) (by omega))) (fun _ => ?_)
    refine lv_aload_n hx hb dX0_solve_28 rfl (lv_at hl 1 rfl) ?_
    refine x_g0 4 49 hx hb hown hts hK hP (by decide) q35 rfl rfl dX0_solve_29 ?_
    refine lv_iconst (v := 1) hx hb dX0_solve_32 (by decide) ?_
    refine lv_isub hx hb dX0_solve_33 ?_
    rw [nI_im1]
    refine lv_istore_n (lv' := [(2, .int (nI j)), (1, .int (nI st)), (0, .ref (ad 0))]) hx hb dX0_solve_34 rfl hl (by decide) rfl (fun ls hl => ?_)
    refine lv_aload_n hx hb dX0_solve_35 rfl (lv_at hl 2 rfl) ?_
    refine x_g0 6 22 hx hb hown hts hK hP (by decide) q37 rfl rfl dX0_solve_36 ?_
    refine lv_iload_n hx hb dX0_solve_39 rfl (lv_at hl 0 rfl) ?_
    refine x_ald j rfl 5 (by omega) (by decide) hx hb hK hP rfl dX0_solve_40 ?_
    refine lv_if_ne (tgt := 52) hx hb dX0_solve_41 (by decide) (fun _ => ?_) (fun cc9 => absurd cc9 (by rw [hT]; decide))
    refine lv_aload_n hx hb dX0_solve_52 rfl (lv_at hl 2 rfl) ?_
    refine x_g0 6 22 hx hb hown hts hK hP (by decide) q37 rfl rfl dX0_solve_53 ?_
    refine lv_iload_n hx hb dX0_solve_56 rfl (lv_at hl 0 rfl) ?_
    refine x_ald j rfl 5 (by omega) (by decide) hx hb hK hP rfl dX0_solve_57 ?_
    refine lv_iconst (v := 1) hx hb dX0_solve_58 (by decide) ?_
    refine lv_icmp_ne (tgt := 70) hx hb dX0_solve_59 (by decide) (fun cc9 => absurd hT cc9) (fun _ => ?_)
    refine lv_aload_n hx hb dX0_solve_62 rfl (lv_at hl 2 rfl) ?_
    refine lv_iload_n hx hb dX0_solve_63 rfl (lv_at hl 0 rfl) ?_
    refine x_vv [.int (nI j)] [] 1 (m0_goOn1 l D ad d one C F S L T G V R j hj h0) hx hb hml hown hts hA hK hP hD hS (lw_V q118 q120 qs8 q21 q121) (by decide +kernel) rfl ⟨Nat.le_of_ble_eq_true rfl, Nat.le_of_ble_eq_true rfl⟩ rfl rfl rfl rfl hl.1 (Nat.le_of_ble_eq_true rfl) ⟨Nat.zero_le _, Nat.zero_le _⟩ dX0_solve_64 (fun u H locs hw hP hD hS => ?_)
    have hP : va_P D vwCl (wG ad d one (nI (j + 2)) C F S (upd L (j + 1) (L j &&& (zB one C F S (L j) (V (1 - pn (gre C (L j) 8))) ^^^ (-1)))) (upd (upd T j 2) (j + 1) 0) (upd G j (zB one C F S (L j) (V (1 - pn (gre C (L j) 8))))) V R) H := hP
    have hD : va_D A (wG ad d one (nI (j + 2)) C F S (upd L (j + 1) (L j &&& (zB one C F S (L j) (V (1 - pn (gre C (L j) 8))) ^^^ (-1)))) (upd (upd T j 2) (j + 1) 0) (upd G j (zB one C F S (L j) (V (1 - pn (gre C (L j) 8))))) V R) := hD
    refine lv_goto (tgt := 75) hx hb dX0_solve_67 (by decide) ?_
    refine lv_iinc (v := nI (st + 1)) (lv' := [(1, .int (nI (st + 1))), (2, .int (nI j)), (0, .ref (ad 0))]) hx hb dX0_solve_75 hl (k := 1) rfl (nI_i1 _) (by decide) rfl (fun ls hl => ?_)
    refine lv_goto (tgt := 14) hx hb dX0_solve_78 (by decide) ?_
    exact k H locs ls hP hD hS (lv_sub hl [0, 2] rfl)
  · intro st j L T G V hst hj hT k H locs ls hP hD hS hl
    refine lv_iload_n hx hb dX0_solve_14 rfl (lv_at hl 0 rfl) ?_
    refine lv_sipush (v := nI 2000) hx hb dX0_solve_15 (by decide) ?_
    refine lv_icmp_ge (tgt := 81) hx hb dX0_solve_18 (by decide) (fun cc9 => absurd cc9 (nI_ge hst (by decide))) (fun _ => ?_)
    refine lv_aload_n hx hb dX0_solve_21 rfl (lv_at hl 1 rfl) ?_
    refine x_g0 4 49 hx hb hown hts hK hP (by decide) q35 rfl rfl dX0_solve_22 ?_
    refine lv_if_le (tgt := 81) hx hb dX0_solve_25 (by decide) (fun cc9 => absurd cc9 (nI_nle (by omega) (by omega))) (fun _ => ?_)
    refine lv_aload_n hx hb dX0_solve_28 rfl (lv_at hl 1 rfl) ?_
    refine x_g0 4 49 hx hb hown hts hK hP (by decide) q35 rfl rfl dX0_solve_29 ?_
    refine lv_iconst (v := 1) hx hb dX0_solve_32 (by decide) ?_
    refine lv_isub hx hb dX0_solve_33 ?_
    rw [nI_im1]
    refine lv_istore_n (lv' := [(2, .int (nI j)), (1, .int (nI st)), (0, .ref (ad 0))]) hx hb dX0_solve_34 rfl hl (by decide) rfl (fun ls hl => ?_)
    refine lv_aload_n hx hb dX0_solve_35 rfl (lv_at hl 2 rfl) ?_
    refine x_g0 6 22 hx hb hown hts hK hP (by decide) q37 rfl rfl dX0_solve_36 ?_
    refine lv_iload_n hx hb dX0_solve_39 rfl (lv_at hl 0 rfl) ?_
    refine x_ald j rfl 5 (by omega) (by decide) hx hb hK hP rfl dX0_solve_40 ?_
    refine lv_if_ne (tgt := 52) hx hb dX0_solve_41 (by decide) (fun _ => ?_) (fun cc9 => absurd cc9 (by rw [hT]; decide))
    refine lv_aload_n hx hb dX0_solve_52 rfl (lv_at hl 2 rfl) ?_
    refine x_g0 6 22 hx hb hown hts hK hP (by decide) q37 rfl rfl dX0_solve_53 ?_
    refine lv_iload_n hx hb dX0_solve_56 rfl (lv_at hl 0 rfl) ?_
    refine x_ald j rfl 5 (by omega) (by decide) hx hb hK hP rfl dX0_solve_57 ?_
    refine lv_iconst (v := 1) hx hb dX0_solve_58 (by decide) ?_
    refine lv_icmp_ne (tgt := 70) hx hb dX0_solve_59 (by decide) (fun _ => ?_) (fun cc9 => absurd cc9 (by rw [hT]; decide))
    refine lv_aload_n hx hb dX0_solve_70 rfl (lv_at hl 2 rfl) ?_
    refine lv_iload_n hx hb dX0_solve_71 rfl (lv_at hl 0 rfl) ?_
    refine x_vv [.int (nI j)] [] 1 (m0_finish l D ad d one C F S L T G V R j hj ) hx hb hml hown hts hA hK hP hD hS (lw_V q122 q124 qs9 q21 q125) (by decide +kernel) rfl ⟨Nat.le_of_ble_eq_true rfl, Nat.le_of_ble_eq_true rfl⟩ rfl rfl rfl rfl hl.1 (Nat.le_of_ble_eq_true rfl) ⟨Nat.zero_le _, Nat.zero_le _⟩ dX0_solve_72 (fun u H locs hw hP hD hS => ?_)
    have hP : va_P D vwCl (wG ad d one (nI j) C F S L T G (upd V (1 - pn (gre C (L j) 8)) (V (1 - pn (gre C (L j) 8)) ||| G j)) R) H := hP
    have hD : va_D A (wG ad d one (nI j) C F S L T G (upd V (1 - pn (gre C (L j) 8)) (V (1 - pn (gre C (L j) 8)) ||| G j)) R) := hD
    refine lv_iinc (v := nI (st + 1)) (lv' := [(1, .int (nI (st + 1))), (2, .int (nI j)), (0, .ref (ad 0))]) hx hb dX0_solve_75 hl (k := 1) rfl (nI_i1 _) (by decide) rfl (fun ls hl => ?_)
    refine lv_goto (tgt := 14) hx hb dX0_solve_78 (by decide) ?_
    exact k H locs ls hP hD hS (lv_sub hl [0, 2] rfl)
  · intro st L T G V hst _ hV0 hV1 H locs ls hP hD hS hl
    refine lv_iload_n hx hb dX0_solve_14 rfl (lv_at hl 0 rfl) ?_
    refine lv_sipush (v := nI 2000) hx hb dX0_solve_15 (by decide) ?_
    refine lv_icmp_ge (tgt := 81) hx hb dX0_solve_18 (by decide) (fun cc9 => absurd cc9 (nI_ge (by omega) (by decide))) (fun _ => ?_)
    refine lv_aload_n hx hb dX0_solve_21 rfl (lv_at hl 1 rfl) ?_
    refine x_g0 4 49 hx hb hown hts hK hP (by decide) q35 rfl rfl dX0_solve_22 ?_
    refine lv_if_le (tgt := 81) hx hb dX0_solve_25 (by decide) (fun _ => ?_) (fun cc9 => absurd (by decide) cc9)
    exact hret _ _ _ _ (L, T, G, V) dX0_solve_81 (zz_sol hg hV0 hV1) hP hD hS
end
section
/-! 12.x0c: printed by gen (walks) -/
set_option maxRecDepth 100000
theorem i1_sub {i : Nat} (hi : i ≤ 1) : 1 - nI i = nI (1 - i) := by
  rcases (show i = 0 ∨ i = 1 by omega) with e | e <;> subst e <;> rfl
set_option maxHeartbeats 4000000 in
set_option maxRecDepth 100000 in
theorem m0_closeWays (l : Launch) (D : va_G) (ad : Nat → Nat) (d : ClassId) (one dep : Int32) (C F S L T G V R : Nat → Int32) (pl ch bd : Int32) : CV l yX0_closeWays cX0_closeWays 6 2 44 D d [.ref (ad 0), .int pl, .int ch, .int bd] (wG ad d one dep C F S L T G V R) (fun (_ : Unit) => True) (fun (_ : Unit) => wG ad d one dep C F S L T G V (wsh (cls one C F S pl ch bd R 8) 8)) := by
  refine CV_of (by decide) (Nat.le_of_ble_eq_true rfl) (fun p e s m below meth c A Q ls E hret => ?_)
  obtain ⟨hx, hb, hml, hown, hts, hA, hK, hP, hD, hS, hl⟩ := E
  have hown : s.vm.findClass RX0 = some m.cls := hown
  have hl : lv_has ls 6 [(0, .ref (ad 0)), (1, .int pl), (2, .int ch), (3, .int bd)] := hl
  refine lv_iconst (v := 0) hx hb dX0_closeWays_0 (by decide) ?_
  refine lv_istore (lv' := [(4, .int 0), (0, .ref (ad 0)), (1, .int pl), (2, .int ch), (3, .int bd)]) hx hb dX0_closeWays_1 hl (by decide) rfl (fun ls hl => ?_)
  have lp1 : ∀ (n k : Nat), k + n = 8 → ∀ (H : Heap) (locs : List Loc) (ls : Array Slot), va_P D vwCl (wG ad d one dep C F S L T G V (cls one C F S pl ch bd R k)) H → va_D A (wG ad d one dep C F S L T G V (cls one C F S pl ch bd R k)) → va_S A s.heap H locs → lv_has ls 6 [(4, .int (nI k)), (0, .ref (ad 0)), (1, .int pl), (2, .int ch), (3, .int bd)] → W p l e { frames := 2, cells := 0, slots := 0, locals := 44 } s m ([.ref (ad 0), .int pl, .int ch, .int bd] : List Value).toArray below meth c H locs 0 0 Q (F0 m 3 ls []) := by
    intro n
    induction n with
    | zero =>
      intro k hk H locs ls hP hD hS hl
      obtain rfl : k = 8 := by omega
      refine lv_iload hx hb dX0_closeWays_3 (lv_at hl 0 rfl) ?_
      refine lv_bipush (v := nI 8) hx hb dX0_closeWays_5 (by decide) ?_
      refine lv_icmp_ge (tgt := 59) hx hb dX0_closeWays_7 (by decide) (fun _ => ?_) (fun cc9 => absurd (nI_le (Nat.le_refl 8) (by decide)) cc9)
      refine lv_iconst (v := 0) hx hb dX0_closeWays_59 (by decide) ?_
      refine lv_istore (lv' := [(4, .int 0), (0, .ref (ad 0)), (1, .int pl), (2, .int ch), (3, .int bd)]) hx hb dX0_closeWays_60 hl (by decide) rfl (fun ls hl => ?_)
      have lp2 : ∀ (n k : Nat), k + n = 8 → ∀ (H : Heap) (locs : List Loc) (ls : Array Slot), va_P D vwCl (wG ad d one dep C F S L T G V (wsh (cls one C F S pl ch bd R 8) k)) H → va_D A (wG ad d one dep C F S L T G V (wsh (cls one C F S pl ch bd R 8) k)) → va_S A s.heap H locs → lv_has ls 6 [(4, .int (nI k)), (0, .ref (ad 0)), (1, .int pl), (2, .int ch), (3, .int bd)] → W p l e { frames := 2, cells := 0, slots := 0, locals := 44 } s m ([.ref (ad 0), .int pl, .int ch, .int bd] : List Value).toArray below meth c H locs 0 0 Q (F0 m 62 ls []) := by
        intro n
        induction n with
        | zero =>
          intro k hk H locs ls hP hD hS hl
          obtain rfl : k = 8 := by omega
          refine lv_iload hx hb dX0_closeWays_62 (lv_at hl 0 rfl) ?_
          refine lv_bipush (v := nI 8) hx hb dX0_closeWays_64 (by decide) ?_
          refine lv_icmp_ge (tgt := 124) hx hb dX0_closeWays_66 (by decide) (fun _ => ?_) (fun cc9 => absurd (nI_le (Nat.le_refl 8) (by decide)) cc9)
          exact hret _ _ _ _ () dX0_closeWays_124 trivial hP hD hS
        | succ n ih =>
          intro k hk H locs ls hP hD hS hl
          refine lv_iload hx hb dX0_closeWays_62 (lv_at hl 0 rfl) ?_
          refine lv_bipush (v := nI 8) hx hb dX0_closeWays_64 (by decide) ?_
          refine lv_icmp_ge (tgt := 124) hx hb dX0_closeWays_66 (by decide) (fun cc9 => absurd cc9 (nI_ge (by omega) (by decide))) (fun _ => ?_)
          refine lv_iconst (v := 0) hx hb dX0_closeWays_69 (by decide) ?_
          refine lv_istore (lv' := [(5, .int 0), (4, .int (nI k)), (0, .ref (ad 0)), (1, .int pl), (2, .int ch), (3, .int bd)]) hx hb dX0_closeWays_70 hl (by decide) rfl (fun ls hl => ?_)
          have lpi : ∀ (n2 q : Nat), q + n2 = 8 → ∀ (H : Heap) (locs : List Loc) (ls : Array Slot), va_P D vwCl (wG ad d one dep C F S L T G V (wsi (wsh (cls one C F S pl ch bd R 8) k) k q)) H → va_D A (wG ad d one dep C F S L T G V (wsi (wsh (cls one C F S pl ch bd R 8) k) k q)) → va_S A s.heap H locs → lv_has ls 6 [(5, .int (nI q)), (4, .int (nI k)), (0, .ref (ad 0)), (1, .int pl), (2, .int ch), (3, .int bd)] → W p l e { frames := 2, cells := 0, slots := 0, locals := 44 } s m ([.ref (ad 0), .int pl, .int ch, .int bd] : List Value).toArray below meth c H locs 0 0 Q (F0 m 72 ls []) := by
            intro n2
            induction n2 with
            | zero =>
              intro q hq H locs ls hP hD hS hl
              obtain rfl : q = 8 := by omega
              refine lv_iload hx hb dX0_closeWays_72 (lv_at hl 0 rfl) ?_
              refine lv_bipush (v := nI 8) hx hb dX0_closeWays_74 (by decide) ?_
              refine lv_icmp_ge (tgt := 118) hx hb dX0_closeWays_76 (by decide) (fun _ => ?_) (fun cc9 => absurd (nI_le (Nat.le_refl 8) (by decide)) cc9)
              refine lv_iinc (v := nI (k + 1)) (lv' := [(4, .int (nI (k + 1))), (5, .int (nI 8)), (0, .ref (ad 0)), (1, .int pl), (2, .int ch), (3, .int bd)]) hx hb dX0_closeWays_118 hl (k := 1) rfl (nI_i1 _) (by decide) rfl (fun ls hl => ?_)
              refine lv_goto (tgt := 62) hx hb dX0_closeWays_121 (by decide) ?_
              exact ih (k + 1) (by omega) H locs ls hP hD hS (lv_sub hl [0, 2, 3, 4, 5] rfl)
            | succ n2 ih2 =>
              intro q hq H locs ls hP hD hS hl
              refine lv_iload hx hb dX0_closeWays_72 (lv_at hl 0 rfl) ?_
              refine lv_bipush (v := nI 8) hx hb dX0_closeWays_74 (by decide) ?_
              refine lv_icmp_ge (tgt := 118) hx hb dX0_closeWays_76 (by decide) (fun cc9 => absurd cc9 (nI_ge (by omega) (by decide))) (fun _ => ?_)
              refine lv_aload_n hx hb dX0_closeWays_79 rfl (lv_at hl 2 rfl) ?_
              refine x_g0 9 31 hx hb hown hts hK hP (by decide) q40 rfl rfl dX0_closeWays_80 ?_
              refine lv_iload hx hb dX0_closeWays_83 (lv_at hl 0 rfl) ?_
              refine x_ald q rfl 8 (by omega) (by decide) hx hb hK hP rfl dX0_closeWays_85 ?_
              refine lv_iload hx hb dX0_closeWays_86 (lv_at hl 1 rfl) ?_
              refine lv_ishr hx hb dX0_closeWays_88 ?_
              refine lv_iconst (v := 1) hx hb dX0_closeWays_89 (by decide) ?_
              refine lv_iand hx hb dX0_closeWays_90 ?_
              refine lv_iconst (v := 1) hx hb dX0_closeWays_91 (by decide) ?_
              refine lv_icmp_ne (tgt := 112) hx hb dX0_closeWays_92 (by decide) (fun c92 => ?_) (fun c92 => ?_)
              · refine lv_iinc (v := nI (q + 1)) (lv' := [(5, .int (nI (q + 1))), (4, .int (nI k)), (0, .ref (ad 0)), (1, .int pl), (2, .int ch), (3, .int bd)]) hx hb dX0_closeWays_112 hl (k := 0) rfl (nI_i1 _) (by decide) rfl (fun ls hl => ?_)
                refine lv_goto (tgt := 72) hx hb dX0_closeWays_115 (by decide) ?_
                have e9 : wsi (wsh (cls one C F S pl ch bd R 8) k) k (q + 1) = wsi (wsh (cls one C F S pl ch bd R 8) k) k q := wsi_f (fun h => c92 ((xb_t _ (by omega)).mpr h))
                exact ih2 (q + 1) (by omega) H locs ls (by rw [e9]; exact hP) (by rw [e9]; exact hD) hS (lv_sub hl [0, 1, 2, 3, 4, 5] rfl)
              · refine lv_aload_n hx hb dX0_closeWays_95 rfl (lv_at hl 2 rfl) ?_
                refine x_g0 9 31 hx hb hown hts hK hP (by decide) q40 rfl rfl dX0_closeWays_96 ?_
                refine lv_iload hx hb dX0_closeWays_99 (lv_at hl 0 rfl) ?_
                refine lv_dup2_11 hx hb dX0_closeWays_101 rfl rfl ?_
                refine x_ald q rfl 8 (by omega) (by decide) hx hb hK hP rfl dX0_closeWays_102 ?_
                refine lv_aload_n hx hb dX0_closeWays_103 rfl (lv_at hl 2 rfl) ?_
                refine x_g0 9 31 hx hb hown hts hK hP (by decide) q40 rfl rfl dX0_closeWays_104 ?_
                refine lv_iload hx hb dX0_closeWays_107 (lv_at hl 1 rfl) ?_
                refine x_ald k rfl 8 (by omega) (by decide) hx hb hK hP rfl dX0_closeWays_109 ?_
                refine lv_ior hx hb dX0_closeWays_110 ?_
                refine x_ast q rfl 8 (by omega) (by decide) hx hb hK hP hD hS rfl dX0_closeWays_111 (fun H locs hP hD hS => ?_)
                have hP : va_P D vwCl (wG ad d one dep C F S L T G V (upd (wsi (wsh (cls one C F S pl ch bd R 8) k) k q) q (((wsi (wsh (cls one C F S pl ch bd R 8) k) k q) q) ||| ((wsi (wsh (cls one C F S pl ch bd R 8) k) k q) k)))) H := hP
                have hD : va_D A (wG ad d one dep C F S L T G V (upd (wsi (wsh (cls one C F S pl ch bd R 8) k) k q) q (((wsi (wsh (cls one C F S pl ch bd R 8) k) k q) q) ||| ((wsi (wsh (cls one C F S pl ch bd R 8) k) k q) k)))) := hD
                refine lv_iinc (v := nI (q + 1)) (lv' := [(5, .int (nI (q + 1))), (4, .int (nI k)), (0, .ref (ad 0)), (1, .int pl), (2, .int ch), (3, .int bd)]) hx hb dX0_closeWays_112 hl (k := 0) rfl (nI_i1 _) (by decide) rfl (fun ls hl => ?_)
                refine lv_goto (tgt := 72) hx hb dX0_closeWays_115 (by decide) ?_
                have e9 : wsi (wsh (cls one C F S pl ch bd R 8) k) k (q + 1) = upd (wsi (wsh (cls one C F S pl ch bd R 8) k) k q) q (((wsi (wsh (cls one C F S pl ch bd R 8) k) k q) q) ||| ((wsi (wsh (cls one C F S pl ch bd R 8) k) k q) k)) := wsi_t ((xb_t _ (by omega)).mp c92)
                exact ih2 (q + 1) (by omega) H locs ls (by rw [e9]; exact hP) (by rw [e9]; exact hD) hS (lv_sub hl [0, 1, 2, 3, 4, 5] rfl)
          exact lpi 8 0 rfl _ _ ls hP hD hS (lv_sub hl [0, 1, 2, 3, 4, 5] rfl)
      exact lp2 8 0 rfl _ _ ls hP hD hS (lv_sub hl [0, 1, 2, 3, 4] rfl)
    | succ n ih =>
      intro k hk H locs ls hP hD hS hl
      refine lv_iload hx hb dX0_closeWays_3 (lv_at hl 0 rfl) ?_
      refine lv_bipush (v := nI 8) hx hb dX0_closeWays_5 (by decide) ?_
      refine lv_icmp_ge (tgt := 59) hx hb dX0_closeWays_7 (by decide) (fun cc9 => absurd cc9 (nI_ge (by omega) (by decide))) (fun _ => ?_)
      refine lv_aload_n hx hb dX0_closeWays_10 rfl (lv_at hl 1 rfl) ?_
      refine x_g0 9 31 hx hb hown hts hK hP (by decide) q40 rfl rfl dX0_closeWays_11 ?_
      refine lv_iload hx hb dX0_closeWays_14 (lv_at hl 0 rfl) ?_
      refine lv_iconst (v := 0) hx hb dX0_closeWays_16 (by decide) ?_
      refine x_ast k rfl 8 (by omega) (by decide) hx hb hK hP hD hS rfl dX0_closeWays_17 (fun H locs hP hD hS => ?_)
      have hP : va_P D vwCl (wG ad d one dep C F S L T G V (upd (cls one C F S pl ch bd R k) k 0)) H := hP
      have hD : va_D A (wG ad d one dep C F S L T G V (upd (cls one C F S pl ch bd R k) k 0)) := hD
      refine lv_aload_n hx hb dX0_closeWays_18 rfl (lv_at hl 1 rfl) ?_
      refine lv_iload hx hb dX0_closeWays_19 (lv_at hl 0 rfl) ?_
      refine lv_iload_n hx hb dX0_closeWays_21 rfl (lv_at hl 2 rfl) ?_
      refine lv_iload_n hx hb dX0_closeWays_22 rfl (lv_at hl 3 rfl) ?_
      refine x_vi [.int (nI k), .int pl, .int ch] [] 3 (m0_movesBy l D ad d one dep C F S L T G V (upd (cls one C F S pl ch bd R k) k 0) k (by omega) pl ch) hx hb hml hown hts hA hK hP hD hS (lw_V q146 q148 qs13 q21 q149) (by decide +kernel) rfl ⟨Nat.le_of_ble_eq_true rfl, Nat.le_of_ble_eq_true rfl⟩ rfl rfl rfl rfl hl.1 (Nat.le_of_ble_eq_true rfl) ⟨Nat.zero_le _, Nat.zero_le _⟩ dX0_closeWays_23 (fun r u H locs hw hP hD hS => ?_)
      subst hw
      refine lv_istore (lv' := [(5, .int (mvb one F S pl ch k)), (4, .int (nI k)), (0, .ref (ad 0)), (1, .int pl), (2, .int ch), (3, .int bd)]) hx hb dX0_closeWays_26 hl (by decide) rfl (fun ls hl => ?_)
      refine lv_aload_n hx hb dX0_closeWays_28 rfl (lv_at hl 2 rfl) ?_
      refine x_g0 1 7 hx hb hown hts hK hP (by decide) q32 rfl rfl dX0_closeWays_29 ?_
      refine lv_iload hx hb dX0_closeWays_32 (lv_at hl 1 rfl) ?_
      refine x_ald k rfl 1 (by omega) (by decide) hx hb hK hP rfl dX0_closeWays_34 ?_
      refine lv_iload_n hx hb dX0_closeWays_35 rfl (lv_at hl 5 rfl) ?_
      refine lv_icmp_gt (tgt := 53) hx hb dX0_closeWays_36 (by decide) (fun c36 => ?_) (fun c36 => ?_)
      · refine lv_iinc (v := nI (k + 1)) (lv' := [(4, .int (nI (k + 1))), (5, .int (mvb one F S pl ch k)), (0, .ref (ad 0)), (1, .int pl), (2, .int ch), (3, .int bd)]) hx hb dX0_closeWays_53 hl (k := 1) rfl (nI_i1 _) (by decide) rfl (fun ls hl => ?_)
        refine lv_goto (tgt := 3) hx hb dX0_closeWays_56 (by decide) ?_
        have e9 : cls one C F S pl ch bd R (k + 1) = upd (cls one C F S pl ch bd R k) k 0 := congrArg (upd (cls one C F S pl ch bd R k) k) (if_neg (i32_lt c36))
        exact ih (k + 1) (by omega) H locs ls (by rw [e9]; exact hP) (by rw [e9]; exact hD) hS (lv_sub hl [0, 2, 3, 4, 5] rfl)
      · refine lv_aload_n hx hb dX0_closeWays_39 rfl (lv_at hl 2 rfl) ?_
        refine x_g0 9 31 hx hb hown hts hK hP (by decide) q40 rfl rfl dX0_closeWays_40 ?_
        refine lv_iload hx hb dX0_closeWays_43 (lv_at hl 1 rfl) ?_
        refine lv_aload_n hx hb dX0_closeWays_45 rfl (lv_at hl 2 rfl) ?_
        refine lv_iload hx hb dX0_closeWays_46 (lv_at hl 0 rfl) ?_
        refine lv_iload_n hx hb dX0_closeWays_48 rfl (lv_at hl 5 rfl) ?_
        refine x_vi [.int (mvb one F S pl ch k), .int bd] [.int (nI k), .ref (ad 8)] 2 (m0_lowOnly l D ad d one dep C F S L T G V (upd (cls one C F S pl ch bd R k) k 0) (mvb one F S pl ch k) bd) hx hb hml hown hts hA hK hP hD hS (lw_V q150 q152 qs14 q21 q153) (by decide +kernel) rfl ⟨Nat.le_of_ble_eq_true rfl, Nat.le_of_ble_eq_true rfl⟩ rfl rfl rfl rfl hl.1 (Nat.le_of_ble_eq_true rfl) ⟨Nat.zero_le _, Nat.zero_le _⟩ dX0_closeWays_49 (fun r u H locs hw hP hD hS => ?_)
        subst hw
        refine x_ast k rfl 8 (by omega) (by decide) hx hb hK hP hD hS rfl dX0_closeWays_52 (fun H locs hP hD hS => ?_)
        have hP : va_P D vwCl (wG ad d one dep C F S L T G V (upd (upd (cls one C F S pl ch bd R k) k 0) k (low C (mvb one F S pl ch k) bd))) H := hP
        have hD : va_D A (wG ad d one dep C F S L T G V (upd (upd (cls one C F S pl ch bd R k) k 0) k (low C (mvb one F S pl ch k) bd))) := hD
        refine lv_iinc (v := nI (k + 1)) (lv' := [(4, .int (nI (k + 1))), (5, .int (mvb one F S pl ch k)), (0, .ref (ad 0)), (1, .int pl), (2, .int ch), (3, .int bd)]) hx hb dX0_closeWays_53 hl (k := 1) rfl (nI_i1 _) (by decide) rfl (fun ls hl => ?_)
        refine lv_goto (tgt := 3) hx hb dX0_closeWays_56 (by decide) ?_
        have e9 : cls one C F S pl ch bd R (k + 1) = upd (upd (cls one C F S pl ch bd R k) k 0) k (low C (mvb one F S pl ch k) bd) := (congrArg (upd (cls one C F S pl ch bd R k) k) (if_pos (i32_nlt c36))).trans (upd_upd _ _ _ _).symm
        exact ih (k + 1) (by omega) H locs ls (by rw [e9]; exact hP) (by rw [e9]; exact hD) hS (lv_sub hl [0, 2, 3, 4, 5] rfl)
  exact lp1 8 0 rfl _ _ ls hP hD hS (lv_sub hl [0, 1, 2, 3, 4] rfl)
set_option maxHeartbeats 4000000 in
set_option maxRecDepth 100000 in
theorem m0_badCircles (l : Launch) (D : va_G) (ad : Nat → Nat) (d : ClassId) (one dep : Int32) (C F S L T G V R : Nat → Int32) (own col f1 f2 : Nat → Nat) (hg : gv own col f1 f2 one C F S) (i : Nat) (hi : i ≤ 1) (ch : Int32) : CI l yX0_badCircles cX0_badCircles 6 (some .int) 3 69 D d [.ref (ad 0), .int (nI i), .int ch] (wG ad d one dep C F S L T G V R) (fun r (_ : Nat → Int32) => ∀ p, bt r p = true ↔ (p < 8 ∧ pg_bad own col f1 f2 i (bt ch) p)) (fun (u : Nat → Int32) => wG ad d one dep C F S L T G V u) := by
  refine CI_of (by decide) (Nat.le_of_ble_eq_true rfl) (fun p e s m0 below meth c A Q ls E hret => ?_)
  obtain ⟨hx, hb, hml, hown, hts, hA, hK, hP, hD, hS, hl⟩ := E
  have hown : s.vm.findClass RX0 = some m0.cls := hown
  have hl : lv_has ls 6 [(0, .ref (ad 0)), (1, .int (nI i)), (2, .int ch)] := hl
  have hcol : ∀ p, p < 8 → C p = nI (col p) := fun p hp => (hg.2 p hp).2.1
  refine lv_iconst (v := 0) hx hb dX0_badCircles_0 (by decide) ?_
  refine lv_istore_n (lv' := [(3, .int 0), (0, .ref (ad 0)), (1, .int (nI i)), (2, .int ch)]) hx hb dX0_badCircles_1 rfl hl (by decide) rfl (fun ls hl => ?_)
  refine lv_iconst (v := 1) hx hb dX0_badCircles_2 (by decide) ?_
  refine lv_iload_n hx hb dX0_badCircles_3 rfl (lv_at hl 2 rfl) ?_
  refine lv_isub hx hb dX0_badCircles_4 ?_
  rw [i1_sub hi]
  refine lv_istore (lv' := [(4, .int (nI (1 - i + 2 * 0))), (3, .int 0), (0, .ref (ad 0)), (1, .int (nI i)), (2, .int ch)]) hx hb dX0_badCircles_5 hl (by decide) rfl (fun ls hl => ?_)
  have lpo : ∀ (n m : Nat) (x : Int32) (R : Nat → Int32), m + n = 3 → bcs own col f1 f2 i ch m x → ∀ (H : Heap) (locs : List Loc) (ls : Array Slot), va_P D vwCl (wG ad d one dep C F S L T G V R) H → va_D A (wG ad d one dep C F S L T G V R) → va_S A s.heap H locs → lv_has ls 6 [(4, .int (nI (1 - i + 2 * m))), (3, .int x), (0, .ref (ad 0)), (1, .int (nI i)), (2, .int ch)] → W p l e { frames := 3, cells := 0, slots := 0, locals := 69 } s m0 ([.ref (ad 0), .int (nI i), .int ch] : List Value).toArray below meth c H locs 0 0 Q (F0 m0 7 ls []) := by
    intro n
    induction n with
    | zero =>
      intro m x R hm hbc H locs ls hP hD hS hl
      obtain rfl : m = 3 := by omega
      refine lv_iload hx hb dX0_badCircles_7 (lv_at hl 0 rfl) ?_
      refine lv_iconst (v := nI 5) hx hb dX0_badCircles_9 (by decide) ?_
      refine lv_icmp_gt (tgt := 78) hx hb dX0_badCircles_10 (by decide) (fun _ => ?_) (fun cc9 => absurd (nI_lt (by omega) (by omega)) cc9)
      refine lv_iload_n hx hb dX0_badCircles_78 rfl (lv_at hl 1 rfl) ?_
      exact hret _ _ _ _ _ R dX0_badCircles_79 (bcs_bad hi hbc) hP hD hS
    | succ n ih =>
      intro m x R hm hbc H locs ls hP hD hS hl
      refine lv_iload hx hb dX0_badCircles_7 (lv_at hl 0 rfl) ?_
      refine lv_iconst (v := nI 5) hx hb dX0_badCircles_9 (by decide) ?_
      refine lv_icmp_gt (tgt := 78) hx hb dX0_badCircles_10 (by decide) (fun cc9 => absurd cc9 (nI_nlt (by omega) (by omega))) (fun _ => ?_)
      refine lv_aload_n hx hb dX0_badCircles_13 rfl (lv_at hl 2 rfl) ?_
      refine lv_iload_n hx hb dX0_badCircles_14 rfl (lv_at hl 3 rfl) ?_
      refine lv_iload_n hx hb dX0_badCircles_15 rfl (lv_at hl 4 rfl) ?_
      refine lv_iload hx hb dX0_badCircles_16 (lv_at hl 0 rfl) ?_
      refine x_vv [.int (nI i), .int ch, .int (nI (1 - i + 2 * m))] [] 3 (m0_closeWays l D ad d one dep C F S L T G V R (nI i) ch (nI (1 - i + 2 * m))) hx hb hml hown hts hA hK hP hD hS (lw_V q142 q144 qs12 q21 q145) (by decide +kernel) rfl ⟨Nat.le_of_ble_eq_true rfl, Nat.le_of_ble_eq_true rfl⟩ rfl rfl rfl rfl hl.1 (Nat.le_of_ble_eq_true rfl) ⟨Nat.zero_le _, Nat.zero_le _⟩ dX0_badCircles_18 (fun u H locs hw hP hD hS => ?_)
      have hP : va_P D vwCl (wG ad d one dep C F S L T G V (wsh (cls one C F S (nI i) ch (nI (1 - i + 2 * m)) R 8) 8)) H := hP
      have hD : va_D A (wG ad d one dep C F S L T G V (wsh (cls one C F S (nI i) ch (nI (1 - i + 2 * m)) R 8) 8)) := hD
      have hrc := cls_rch hg hi (c := 1 - i + 2 * m) (by omega) ch R
      generalize wsh (cls one C F S (nI i) ch (nI (1 - i + 2 * m)) R 8) 8 = R2 at hP hD hrc
      refine lv_iconst (v := 0) hx hb dX0_badCircles_21 (by decide) ?_
      refine lv_istore (lv' := [(5, .int 0), (4, .int (nI (1 - i + 2 * m))), (3, .int x), (0, .ref (ad 0)), (1, .int (nI i)), (2, .int ch)]) hx hb dX0_badCircles_22 hl (by decide) rfl (fun ls hl => ?_)
      have lpi : ∀ (n2 q : Nat), q + n2 = 8 → ∀ (H : Heap) (locs : List Loc) (ls : Array Slot), va_P D vwCl (wG ad d one dep C F S L T G V R2) H → va_D A (wG ad d one dep C F S L T G V R2) → va_S A s.heap H locs → lv_has ls 6 [(5, .int (nI q)), (3, .int (pm (fun k => C k = nI (1 - i + 2 * m) ∧ bt (R2 k) k = true) x q)), (4, .int (nI (1 - i + 2 * m))), (0, .ref (ad 0)), (1, .int (nI i)), (2, .int ch)] → W p l e { frames := 3, cells := 0, slots := 0, locals := 69 } s m0 ([.ref (ad 0), .int (nI i), .int ch] : List Value).toArray below meth c H locs 0 0 Q (F0 m0 24 ls []) := by
        intro n2
        induction n2 with
        | zero =>
          intro q hq H locs ls hP hD hS hl
          obtain rfl : q = 8 := by omega
          refine lv_iload hx hb dX0_badCircles_24 (lv_at hl 0 rfl) ?_
          refine lv_bipush (v := nI 8) hx hb dX0_badCircles_26 (by decide) ?_
          refine lv_icmp_ge (tgt := 72) hx hb dX0_badCircles_28 (by decide) (fun _ => ?_) (fun cc9 => absurd (nI_le (Nat.le_refl 8) (by decide)) cc9)
          refine lv_iinc (v := nI ((1 - i + 2 * m) + 2)) (lv' := [(4, .int (nI ((1 - i + 2 * m) + 2))), (5, .int (nI 8)), (3, .int (pm (fun k => C k = nI (1 - i + 2 * m) ∧ bt (R2 k) k = true) x 8)), (0, .ref (ad 0)), (1, .int (nI i)), (2, .int ch)]) hx hb dX0_badCircles_72 hl (k := 2) rfl (nI_i2 _) (by decide) rfl (fun ls hl => ?_)
          refine lv_goto (tgt := 7) hx hb dX0_badCircles_75 (by decide) ?_
          rw [show 1 - i + 2 * m + 2 = 1 - i + 2 * (m + 1) by omega] at hl
          exact ih (m + 1) _ R2 (by omega) (bcs_s hi (by omega) hcol hg.1 hbc hrc) H locs ls hP hD hS (lv_sub hl [0, 2, 3, 4, 5] rfl)
        | succ n2 ih2 =>
          intro q hq H locs ls hP hD hS hl
          refine lv_iload hx hb dX0_badCircles_24 (lv_at hl 0 rfl) ?_
          refine lv_bipush (v := nI 8) hx hb dX0_badCircles_26 (by decide) ?_
          refine lv_icmp_ge (tgt := 72) hx hb dX0_badCircles_28 (by decide) (fun cc9 => absurd cc9 (nI_ge (by omega) (by decide))) (fun _ => ?_)
          refine lv_aload_n hx hb dX0_badCircles_31 rfl (lv_at hl 3 rfl) ?_
          refine x_g0 1 7 hx hb hown hts hK hP (by decide) q32 rfl rfl dX0_badCircles_32 ?_
          refine lv_iload hx hb dX0_badCircles_35 (lv_at hl 0 rfl) ?_
          refine x_ald q rfl 1 (by omega) (by decide) hx hb hK hP rfl dX0_badCircles_37 ?_
          refine lv_iload hx hb dX0_badCircles_38 (lv_at hl 2 rfl) ?_
          refine lv_icmp_ne (tgt := 66) hx hb dX0_badCircles_40 (by decide) (fun c40 => ?_) (fun c40 => ?_)
          · refine lv_iinc (v := nI (q + 1)) (lv' := [(5, .int (nI (q + 1))), (3, .int (pm (fun k => C k = nI (1 - i + 2 * m) ∧ bt (R2 k) k = true) x q)), (4, .int (nI (1 - i + 2 * m))), (0, .ref (ad 0)), (1, .int (nI i)), (2, .int ch)]) hx hb dX0_badCircles_66 hl (k := 0) rfl (nI_i1 _) (by decide) rfl (fun ls hl => ?_)
            refine lv_goto (tgt := 24) hx hb dX0_badCircles_69 (by decide) ?_
            have e9 : pm (fun k => C k = nI (1 - i + 2 * m) ∧ bt (R2 k) k = true) x (q + 1) = pm (fun k => C k = nI (1 - i + 2 * m) ∧ bt (R2 k) k = true) x q := pm_f (fun h => c40 h.1)
            exact ih2 (q + 1) (by omega) H locs ls hP hD hS (by rw [e9]; exact lv_sub hl [0, 1, 2, 3, 4, 5] rfl)
          · refine lv_aload_n hx hb dX0_badCircles_43 rfl (lv_at hl 3 rfl) ?_
            refine x_g0 9 31 hx hb hown hts hK hP (by decide) q40 rfl rfl dX0_badCircles_44 ?_
            refine lv_iload hx hb dX0_badCircles_47 (lv_at hl 0 rfl) ?_
            refine x_ald q rfl 8 (by omega) (by decide) hx hb hK hP rfl dX0_badCircles_49 ?_
            refine lv_iload hx hb dX0_badCircles_50 (lv_at hl 0 rfl) ?_
            refine lv_ishr hx hb dX0_badCircles_52 ?_
            refine lv_iconst (v := 1) hx hb dX0_badCircles_53 (by decide) ?_
            refine lv_iand hx hb dX0_badCircles_54 ?_
            refine lv_iconst (v := 1) hx hb dX0_badCircles_55 (by decide) ?_
            refine lv_icmp_ne (tgt := 66) hx hb dX0_badCircles_56 (by decide) (fun c56 => ?_) (fun c56 => ?_)
            · refine lv_iinc (v := nI (q + 1)) (lv' := [(5, .int (nI (q + 1))), (3, .int (pm (fun k => C k = nI (1 - i + 2 * m) ∧ bt (R2 k) k = true) x q)), (4, .int (nI (1 - i + 2 * m))), (0, .ref (ad 0)), (1, .int (nI i)), (2, .int ch)]) hx hb dX0_badCircles_66 hl (k := 0) rfl (nI_i1 _) (by decide) rfl (fun ls hl => ?_)
              refine lv_goto (tgt := 24) hx hb dX0_badCircles_69 (by decide) ?_
              have e9 : pm (fun k => C k = nI (1 - i + 2 * m) ∧ bt (R2 k) k = true) x (q + 1) = pm (fun k => C k = nI (1 - i + 2 * m) ∧ bt (R2 k) k = true) x q := pm_f (fun h => c56 ((xb_t _ (by omega)).mpr h.2))
              exact ih2 (q + 1) (by omega) H locs ls hP hD hS (by rw [e9]; exact lv_sub hl [0, 1, 2, 3, 4, 5] rfl)
            · refine lv_iload_n hx hb dX0_badCircles_59 rfl (lv_at hl 1 rfl) ?_
              refine lv_iconst (v := 1) hx hb dX0_badCircles_60 (by decide) ?_
              refine lv_iload hx hb dX0_badCircles_61 (lv_at hl 0 rfl) ?_
              refine lv_ishl hx hb dX0_badCircles_63 ?_
              refine lv_ior hx hb dX0_badCircles_64 ?_
              refine lv_istore_n (lv' := [(3, .int ((pm (fun k => C k = nI (1 - i + 2 * m) ∧ bt (R2 k) k = true) x q) ||| ((1 : Int32) <<< ((nI q) &&& 31)))), (5, .int (nI q)), (4, .int (nI (1 - i + 2 * m))), (0, .ref (ad 0)), (1, .int (nI i)), (2, .int ch)]) hx hb dX0_badCircles_65 rfl hl (by decide) rfl (fun ls hl => ?_)
              refine lv_iinc (v := nI (q + 1)) (lv' := [(5, .int (nI (q + 1))), (3, .int ((pm (fun k => C k = nI (1 - i + 2 * m) ∧ bt (R2 k) k = true) x q) ||| ((1 : Int32) <<< ((nI q) &&& 31)))), (4, .int (nI (1 - i + 2 * m))), (0, .ref (ad 0)), (1, .int (nI i)), (2, .int ch)]) hx hb dX0_badCircles_66 hl (k := 1) rfl (nI_i1 _) (by decide) rfl (fun ls hl => ?_)
              refine lv_goto (tgt := 24) hx hb dX0_badCircles_69 (by decide) ?_
              have e9 : pm (fun k => C k = nI (1 - i + 2 * m) ∧ bt (R2 k) k = true) x (q + 1) = (pm (fun k => C k = nI (1 - i + 2 * m) ∧ bt (R2 k) k = true) x q) ||| ((1 : Int32) <<< ((nI q) &&& 31)) := pm_t ⟨c40, (xb_t _ (by omega)).mp c56⟩
              exact ih2 (q + 1) (by omega) H locs ls hP hD hS (by rw [e9]; exact lv_sub hl [0, 1, 2, 3, 4, 5] rfl)
      exact lpi 8 0 rfl _ _ ls hP hD hS (lv_sub hl [0, 2, 1, 3, 4, 5] rfl)
  exact lpo 3 0 0 R rfl (bcs_0 i ch) _ _ ls hP hD hS (lv_sub hl [0, 1, 2, 3, 4] rfl)
set_option maxHeartbeats 4000000 in
set_option maxRecDepth 100000 in
theorem m0_isGood (l : Launch) (D : va_G) (ad : Nat → Nat) (d : ClassId) (one dep : Int32) (C F S L T G V R : Nat → Int32) (own col f1 f2 : Nat → Nat) (hg : gv own col f1 f2 one C F S) (i : Nat) (hi : i ≤ 1) (ch rg : Int32) : CI l yX0_isGood cX0_isGood 6 (some .boolean) 4 94 D d [.ref (ad 0), .int (nI i), .int ch, .int rg] (wG ad d one dep C F S L T G V R) (fun r (_ : Nat → Int32) => (r = 1 ∧ ∀ q, q < 8 → bt rg q = true → pg_win own col f1 f2 i (bt ch) q) ∨ (r = 0 ∧ ¬ ∀ q, q < 8 → bt rg q = true → pg_win own col f1 f2 i (bt ch) q)) (fun (u : Nat → Int32) => wG ad d one dep C F S L T G V u) := by
  refine CZ_of (by decide) (Nat.le_of_ble_eq_true rfl) (fun p e s m below meth c A Q ls E hret => ?_)
  obtain ⟨hx, hb, hml, hown, hts, hA, hK, hP, hD, hS, hl⟩ := E
  have hown : s.vm.findClass RX0 = some m.cls := hown
  have hl : lv_has ls 6 [(0, .ref (ad 0)), (1, .int (nI i)), (2, .int ch), (3, .int rg)] := hl
  refine lv_aload_n hx hb dX0_isGood_0 rfl (lv_at hl 0 rfl) ?_
  refine lv_iload_n hx hb dX0_isGood_1 rfl (lv_at hl 1 rfl) ?_
  refine lv_iload_n hx hb dX0_isGood_2 rfl (lv_at hl 2 rfl) ?_
  refine x_vi [.int (nI i), .int ch] [] 2 (m0_badCircles l D ad d one dep C F S L T G V R own col f1 f2 hg i hi ch) hx hb hml hown hts hA hK hP hD hS (lw_V q138 q140 qs11 q21 q141) (by decide +kernel) rfl ⟨Nat.le_of_ble_eq_true rfl, Nat.le_of_ble_eq_true rfl⟩ rfl rfl rfl rfl hl.1 (Nat.le_of_ble_eq_true rfl) ⟨Nat.zero_le _, Nat.zero_le _⟩ dX0_isGood_3 (fun x R1 H locs hw hP hD hS => ?_)
  have hbad := hw
  have hP : va_P D vwCl (wG ad d one dep C F S L T G V R1) H := hP
  have hD : va_D A (wG ad d one dep C F S L T G V R1) := hD
  refine lv_istore (lv' := [(4, .int x), (0, .ref (ad 0)), (1, .int (nI i)), (2, .int ch), (3, .int rg)]) hx hb dX0_isGood_6 hl (by decide) rfl (fun ls hl => ?_)
  refine lv_aload_n hx hb dX0_isGood_8 rfl (lv_at hl 1 rfl) ?_
  refine lv_iload_n hx hb dX0_isGood_9 rfl (lv_at hl 2 rfl) ?_
  refine lv_iload_n hx hb dX0_isGood_10 rfl (lv_at hl 3 rfl) ?_
  refine lv_iconst (v := nI 5) hx hb dX0_isGood_11 (by decide) ?_
  refine x_vv [.int (nI i), .int ch, .int (nI 5)] [] 3 (m0_closeWays l D ad d one dep C F S L T G V R1 (nI i) ch (nI 5)) hx hb hml hown hts hA hK hP hD hS (lw_V q142 q144 qs12 q21 q145) (by decide +kernel) rfl ⟨Nat.le_of_ble_eq_true rfl, Nat.le_of_ble_eq_true rfl⟩ rfl rfl rfl rfl hl.1 (Nat.le_of_ble_eq_true rfl) ⟨Nat.zero_le _, Nat.zero_le _⟩ dX0_isGood_12 (fun u H locs hw hP hD hS => ?_)
  have hP : va_P D vwCl (wG ad d one dep C F S L T G V (wsh (cls one C F S (nI i) ch (nI 5) R1 8) 8)) H := hP
  have hD : va_D A (wG ad d one dep C F S L T G V (wsh (cls one C F S (nI i) ch (nI 5) R1 8) 8)) := hD
  have hrc := cls_rch hg hi (c := 5) (by omega) ch R1
  generalize wsh (cls one C F S (nI i) ch (nI 5) R1 8) 8 = R2 at hP hD hrc
  refine lv_iconst (v := 0) hx hb dX0_isGood_15 (by decide) ?_
  refine lv_istore (lv' := [(5, .int 0), (4, .int x), (0, .ref (ad 0)), (1, .int (nI i)), (2, .int ch), (3, .int rg)]) hx hb dX0_isGood_16 hl (by decide) rfl (fun ls hl => ?_)
  have lp : ∀ (n k : Nat), k + n = 8 → (∀ q, q < k → bt rg q = true → pg_win own col f1 f2 i (bt ch) q) → ∀ (ls : Array Slot), lv_has ls 6 [(5, .int (nI k)), (4, .int x), (0, .ref (ad 0)), (1, .int (nI i)), (2, .int ch), (3, .int rg)] → W p l e { frames := 4, cells := 0, slots := 0, locals := 94 } s m ([.ref (ad 0), .int (nI i), .int ch, .int rg] : List Value).toArray below meth c H locs 0 0 Q (F0 m 18 ls []) := by
    intro n
    induction n with
    | zero =>
      intro k hk hin ls hl
      obtain rfl : k = 8 := by omega
      refine lv_iload hx hb dX0_isGood_18 (lv_at hl 0 rfl) ?_
      refine lv_bipush (v := nI 8) hx hb dX0_isGood_20 (by decide) ?_
      refine lv_icmp_ge (tgt := 61) hx hb dX0_isGood_22 (by decide) (fun _ => ?_) (fun cc9 => absurd (nI_le (Nat.le_refl 8) (by decide)) cc9)
      refine lv_iconst (v := 1) hx hb dX0_isGood_61 (by decide) ?_
      exact hret _ _ _ _ _ R2 dX0_isGood_62 (Or.inr rfl) (Or.inl ⟨rfl, hin⟩) hP hD hS
    | succ n ih =>
      intro k hk hin ls hl
      refine lv_iload hx hb dX0_isGood_18 (lv_at hl 0 rfl) ?_
      refine lv_bipush (v := nI 8) hx hb dX0_isGood_20 (by decide) ?_
      refine lv_icmp_ge (tgt := 61) hx hb dX0_isGood_22 (by decide) (fun cc9 => absurd cc9 (nI_ge (by omega) (by decide))) (fun _ => ?_)
      refine lv_iload_n hx hb dX0_isGood_25 rfl (lv_at hl 5 rfl) ?_
      refine lv_iload hx hb dX0_isGood_26 (lv_at hl 0 rfl) ?_
      refine lv_ishr hx hb dX0_isGood_28 ?_
      refine lv_iconst (v := 1) hx hb dX0_isGood_29 (by decide) ?_
      refine lv_iand hx hb dX0_isGood_30 ?_
      refine lv_iconst (v := 1) hx hb dX0_isGood_31 (by decide) ?_
      refine lv_icmp_ne (tgt := 55) hx hb dX0_isGood_32 (by decide) (fun c32 => ?_) (fun c32 => ?_)
      · refine lv_iinc (v := nI (k + 1)) (lv' := [(5, .int (nI (k + 1))), (4, .int x), (0, .ref (ad 0)), (1, .int (nI i)), (2, .int ch), (3, .int rg)]) hx hb dX0_isGood_55 hl (k := 0) rfl (nI_i1 _) (by decide) rfl (fun ls hl => ?_)
        refine lv_goto (tgt := 18) hx hb dX0_isGood_58 (by decide) ?_
        exact ih (k + 1) (by omega) (lt_s hin (fun h => absurd ((xb_t _ (by omega)).mpr h) c32)) ls (lv_sub hl [0, 1, 2, 3, 4, 5] rfl)
      · refine lv_aload_n hx hb dX0_isGood_35 rfl (lv_at hl 2 rfl) ?_
        refine x_g0 9 31 hx hb hown hts hK hP (by decide) q40 rfl rfl dX0_isGood_36 ?_
        refine lv_iload hx hb dX0_isGood_39 (lv_at hl 0 rfl) ?_
        refine x_ald k rfl 8 (by omega) (by decide) hx hb hK hP rfl dX0_isGood_41 ?_
        refine lv_iconst (v := 1) hx hb dX0_isGood_42 (by decide) ?_
        refine lv_iload hx hb dX0_isGood_43 (lv_at hl 0 rfl) ?_
        refine lv_ishl hx hb dX0_isGood_45 ?_
        refine lv_ior hx hb dX0_isGood_46 ?_
        refine lv_iload hx hb dX0_isGood_47 (lv_at hl 1 rfl) ?_
        refine lv_iand hx hb dX0_isGood_49 ?_
        refine lv_if_eq (tgt := 55) hx hb dX0_isGood_50 (by decide) (fun c50 => ?_) (fun c50 => ?_)
        · refine lv_iinc (v := nI (k + 1)) (lv' := [(5, .int (nI (k + 1))), (4, .int x), (0, .ref (ad 0)), (1, .int (nI i)), (2, .int ch), (3, .int rg)]) hx hb dX0_isGood_55 hl (k := 0) rfl (nI_i1 _) (by decide) rfl (fun ls hl => ?_)
          refine lv_goto (tgt := 18) hx hb dX0_isGood_58 (by decide) ?_
          exact ih (k + 1) (by omega) (lt_s hin (fun _ => (win_bits hbad hg.1 hrc (by omega)).mp c50)) ls (lv_sub hl [0, 1, 2, 3, 4, 5] rfl)
        · refine lv_iconst (v := 0) hx hb dX0_isGood_53 (by decide) ?_
          exact hret _ _ _ _ _ R2 dX0_isGood_54 (Or.inl rfl) (Or.inr ⟨rfl, fun h => c50 ((win_bits hbad hg.1 hrc (by omega)).mpr (h k (by omega) ((xb_t _ (by omega)).mp c32)))⟩) hP hD hS
  exact lp 8 0 rfl (fun q h => absurd h (Nat.not_lt_zero _)) ls (lv_sub hl [0, 1, 2, 3, 4, 5] rfl)
end
section
/-! answers of the public methods as functions of the game, and the game's changes: no program in sight -/
noncomputable def cif {α : Type} (P : Prop) (a b : α) : α := @ite α P (Classical.propDecidable P) a b
theorem cif_t {α : Type} {P : Prop} {a b : α} (h : P) : cif P a b = a := if_pos h
theorem cif_f {α : Type} {P : Prop} {a b : α} (h : ¬ P) : cif P a b = b := if_neg h
theorem pl_of {x : Int32} (h : ¬ x < 0) (h2 : x ≤ 1) : ∃ i, i ≤ 1 ∧ x = nI i := nI_of2 (M := 1) (n := 1) rfl h h2
theorem cl_of {x : Int32} (h : ¬ x < 0) (h2 : x ≤ 5) : ∃ i, i ≤ 5 ∧ x = nI i := nI_of2 (M := 5) (n := 5) rfl h h2
def a_npl (x : Int32) : Prop := x < 0 ∨ 1 < x
def a_ncl (x : Int32) : Prop := x < 0 ∨ 5 < x
theorem a_npl_not {i : Nat} (h : i ≤ 1) : ¬ a_npl (nI i) := by
  rcases (show i = 0 ∨ i = 1 by omega) with e | e <;> subst e <;> rintro (h1 | h1) <;> revert h1 <;> decide
theorem a_ncl_not {i : Nat} (h : i ≤ 5) : ¬ a_ncl (nI i) := by
  have : ∀ i, i < 6 → ¬ (nI i < 0) ∧ ¬ (5 < nI i) := by decide +kernel
  rintro (h1 | h1)
  · exact (this i (by omega)).1 h1
  · exact (this i (by omega)).2 h1
/-! masks of three bits -/
theorem and7 (x : Int32) : (x &&& nI 7).toNatClampNeg < 8 ∧ x &&& nI 7 = nI (x &&& nI 7).toNatClampNeg := by
  obtain ⟨j, h1, h2⟩ := pk_andE x (m := nI 7) 3 rfl
  rw [h2, nI_clamp (by omega)]
  exact ⟨h1, rfl⟩
/-! the game in the class's state, by bits -/
theorem ow_bit {one : Int32} {q o : Nat} (hq : q < 8) (ho : o ≤ 1) (h : bt one q = true ↔ o = 1) : ow one q = nI o := by
  unfold ow
  rw [xb_val one q (by omega)]
  by_cases hb : bt one q = true
  · rw [if_pos hb, h.mp hb]; rfl
  · rw [if_neg hb]
    have : o = 0 := by
      have : ¬ o = 1 := fun e => hb (h.mpr e)
      omega
    rw [this]; rfl
theorem gv_bit {own col f s : Nat → Nat} {one : Int32} {C F S : Nat → Int32} (hg : gv own col f s one C F S) {q : Nat} (hq : q < 8) : bt one q = true ↔ own q = 1 := by
  have h1 := (hg.2 q hq).1
  have h2 := (hg.1 q hq).1
  unfold ow at h1
  rw [← xb_t one (k := q) (by omega), h1, show (1 : Int32) = nI 1 from rfl, nI_eq (by omega) (by omega)]
/-- changes -/
noncomputable def okset (ps pl cl : Int32) : Prop := ¬ a_bad ps ∧ ¬ a_npl pl ∧ ¬ a_ncl cl
noncomputable def a_set (ps pl cl : Int32) : Int32 := cif (a_bad ps) (-1) (cif (a_npl pl) (-3) (cif (a_ncl cl) (-2) 0))
noncomputable def s_own (own : Nat → Nat) (ps pl cl : Int32) : Nat → Nat := fun q => cif (okset ps pl cl ∧ q = ps.toNatClampNeg) pl.toNatClampNeg (own q)
noncomputable def s_col (col : Nat → Nat) (ps pl cl : Int32) : Nat → Nat := fun q => cif (okset ps pl cl ∧ q = ps.toNatClampNeg) cl.toNatClampNeg (col q)
noncomputable def s_f (f : Nat → Nat) (ps pl cl mv : Int32) : Nat → Nat := fun q => cif (okset ps pl cl ∧ q = ps.toNatClampNeg) (mv &&& nI 7).toNatClampNeg (f q)
noncomputable def s_s (s : Nat → Nat) (ps pl cl mv : Int32) : Nat → Nat := fun q => cif (okset ps pl cl ∧ q = ps.toNatClampNeg) ((mv >>> (3 &&& 31)) &&& nI 7).toNatClampNeg (s q)
noncomputable def a_paint (col : Nat → Nat) (ps cl : Int32) : Int32 := cif (a_bad ps) (-1) (cif (a_ncl cl) (-2) (nI (col ps.toNatClampNeg)))
noncomputable def p_col (col : Nat → Nat) (ps cl : Int32) : Nat → Nat := fun q => cif ((¬ a_bad ps ∧ ¬ a_ncl cl) ∧ q = ps.toNatClampNeg) cl.toNatClampNeg (col q)
noncomputable def a_hand (own : Nat → Nat) (ps : Int32) : Int32 := cif (a_bad ps) (-1) (nI (1 - own ps.toNatClampNeg))
noncomputable def h_own (own : Nat → Nat) (ps : Int32) : Nat → Nat := fun q => cif (¬ a_bad ps ∧ q = ps.toNatClampNeg) (1 - own q) (own q)
def flip1 (own : Nat → Nat) (p : Nat) : Nat → Nat := fun q => if q = p then 1 - own q else own q
def m_own (own : Nat → Nat) : Nat → Nat := fun q => 1 - own q
def m_col (col : Nat → Nat) : Nat → Nat := fun q => if col q = 5 then 0 else col q + 1
theorem h_own_f {own : Nat → Nat} {j : Nat} (h : j < 8) : h_own own (nI j) = flip1 own j := by
  funext q
  unfold h_own flip1
  rw [nI_clamp (by omega)]
  by_cases e : q = j
  · rw [cif_t ⟨a_bad_not h, e⟩, if_pos e]
  · rw [cif_f (fun h => e h.2), if_neg e]
theorem h_own_no {own : Nat → Nat} {x : Int32} (h : a_bad x) : h_own own x = own := by
  funext q
  exact cif_f (fun e => e.1 h)
theorem p_col_no {col : Nat → Nat} {x c : Int32} (h : ¬ (¬ a_bad x ∧ ¬ a_ncl c)) : p_col col x c = col := by
  funext q
  exact cif_f (fun e => h e.1)
theorem p_col_f {col : Nat → Nat} {j b : Nat} (h : j < 8) (hb : b ≤ 5) (q : Nat) : p_col col (nI j) (nI b) q = if q = j then b else col q := by
  unfold p_col
  rw [nI_clamp (by omega), nI_clamp (by omega)]
  by_cases e : q = j
  · rw [cif_t ⟨⟨a_bad_not h, a_ncl_not hb⟩, e⟩, if_pos e]
  · rw [cif_f (fun h => e h.2), if_neg e]
theorem ok_set {j a b : Nat} (h : j < 8) (ha : a ≤ 1) (hb : b ≤ 5) : okset (nI j) (nI a) (nI b) := ⟨a_bad_not h, a_npl_not ha, a_ncl_not hb⟩
theorem s_own_f {own : Nat → Nat} {j a b : Nat} (h : j < 8) (ha : a ≤ 1) (hb : b ≤ 5) (q : Nat) : s_own own (nI j) (nI a) (nI b) q = if q = j then a else own q := by
  unfold s_own
  rw [nI_clamp (n := j) (by omega), nI_clamp (n := a) (by omega)]
  by_cases e : q = j
  · rw [cif_t ⟨ok_set h ha hb, e⟩, if_pos e]
  · rw [cif_f (fun h => e h.2), if_neg e]
theorem s_col_f {col : Nat → Nat} {j a b : Nat} (h : j < 8) (ha : a ≤ 1) (hb : b ≤ 5) (q : Nat) : s_col col (nI j) (nI a) (nI b) q = if q = j then b else col q := by
  unfold s_col
  rw [nI_clamp (n := j) (by omega), nI_clamp (n := b) (by omega)]
  by_cases e : q = j
  · rw [cif_t ⟨ok_set h ha hb, e⟩, if_pos e]
  · rw [cif_f (fun h => e h.2), if_neg e]
theorem s_f_f {f : Nat → Nat} {j a b : Nat} (mv : Int32) (h : j < 8) (ha : a ≤ 1) (hb : b ≤ 5) (q : Nat) : s_f f (nI j) (nI a) (nI b) mv q = if q = j then (mv &&& nI 7).toNatClampNeg else f q := by
  unfold s_f
  rw [nI_clamp (n := j) (by omega)]
  by_cases e : q = j
  · rw [cif_t ⟨ok_set h ha hb, e⟩, if_pos e]
  · rw [cif_f (fun h => e h.2), if_neg e]
theorem s_s_f {s : Nat → Nat} {j a b : Nat} (mv : Int32) (h : j < 8) (ha : a ≤ 1) (hb : b ≤ 5) (q : Nat) : s_s s (nI j) (nI a) (nI b) mv q = if q = j then ((mv >>> (3 &&& 31)) &&& nI 7).toNatClampNeg else s q := by
  unfold s_s
  rw [nI_clamp (n := j) (by omega)]
  by_cases e : q = j
  · rw [cif_t ⟨ok_set h ha hb, e⟩, if_pos e]
  · rw [cif_f (fun h => e h.2), if_neg e]
section
variable {own col f s : Nat → Nat} {one : Int32} {O C F S : Nat → Int32}
theorem gv_set_no {ps pl cl mv : Int32} (h : ¬ okset ps pl cl) (hg : gv own col f s one C F S) : gv (s_own own ps pl cl) (s_col col ps pl cl) (s_f f ps pl cl mv) (s_s s ps pl cl mv) one C F S := by
  have e1 : s_own own ps pl cl = own := funext fun q => cif_f (fun e => h e.1)
  have e2 : s_col col ps pl cl = col := funext fun q => cif_f (fun e => h e.1)
  have e3 : s_f f ps pl cl mv = f := funext fun q => cif_f (fun e => h e.1)
  have e4 : s_s s ps pl cl mv = s := funext fun q => cif_f (fun e => h e.1)
  rw [e1, e2, e3, e4]
  exact hg
theorem tv_set_no {ps pl cl mv : Int32} (h : ¬ okset ps pl cl) (hg : tv own col f s O C F S) : tv (s_own own ps pl cl) (s_col col ps pl cl) (s_f f ps pl cl mv) (s_s s ps pl cl mv) O C F S := by
  have e1 : s_own own ps pl cl = own := funext fun q => cif_f (fun e => h e.1)
  have e2 : s_col col ps pl cl = col := funext fun q => cif_f (fun e => h e.1)
  have e3 : s_f f ps pl cl mv = f := funext fun q => cif_f (fun e => h e.1)
  have e4 : s_s s ps pl cl mv = s := funext fun q => cif_f (fun e => h e.1)
  rw [e1, e2, e3, e4]
  exact hg
theorem ok_upd (hok : pg_ok own col f s) {j a b : Nat} (mv : Int32) (h : j < 8) (ha : a ≤ 1) (hb : b ≤ 5) : pg_ok (s_own own (nI j) (nI a) (nI b)) (s_col col (nI j) (nI a) (nI b)) (s_f f (nI j) (nI a) (nI b) mv) (s_s s (nI j) (nI a) (nI b) mv) := by
  intro q hq
  rw [s_own_f h ha hb, s_col_f h ha hb, s_f_f mv h ha hb, s_s_f mv h ha hb]
  by_cases e : q = j
  · rw [if_pos e, if_pos e, if_pos e, if_pos e]
    exact ⟨ha, hb, (and7 _).1, (and7 _).1⟩
  · rw [if_neg e, if_neg e, if_neg e, if_neg e]
    exact hok q hq
theorem tv_set (hg : tv own col f s O C F S) {j a b : Nat} (mv : Int32) (h : j < 8) (ha : a ≤ 1) (hb : b ≤ 5) : tv (s_own own (nI j) (nI a) (nI b)) (s_col col (nI j) (nI a) (nI b)) (s_f f (nI j) (nI a) (nI b) mv) (s_s s (nI j) (nI a) (nI b) mv) (upd O j (nI a)) (upd C j (nI b)) (upd F j (mv &&& nI 7)) (upd S j ((mv >>> (3 &&& 31)) &&& nI 7)) := by
  refine ⟨ok_upd hg.1 mv h ha hb, fun q hq => ?_⟩
  rw [s_own_f h ha hb, s_col_f h ha hb, s_f_f mv h ha hb, s_s_f mv h ha hb]
  by_cases e : q = j
  · subst e
    rw [if_pos rfl, if_pos rfl, if_pos rfl, if_pos rfl, pk_us, pk_us, pk_us, pk_us]
    exact ⟨rfl, rfl, (and7 _).2, (and7 _).2⟩
  · rw [if_neg e, if_neg e, if_neg e, if_neg e, pk_un e, pk_un e, pk_un e, pk_un e]
    exact hg.2 q hq
theorem set_bits {a j q : Nat} (hj : j < 8) (hq : q < 8) (ha : a ≤ 1) (one : Int32) : bt ((one &&& (((1 : Int32) <<< (nI j &&& 31)) ^^^ (-1))) ||| (nI a <<< (nI j &&& 31))) q = true ↔ (if q = j then a = 1 else bt one q = true) := by
  rw [b_or, Bool.or_eq_true, xb_diff, xb_one j (by omega), b_shl j (by omega) _ (by omega), xb_nI2 a (by omega) (q - j) (by omega)]
  by_cases e : q = j
  · subst e
    rw [if_pos rfl]
    simp
  · rw [if_neg e]
    have hd : decide (q = j) = false := decide_eq_false e
    rw [hd]
    simp only [Bool.not_false, Bool.and_true]
    constructor
    · rintro (h1 | h1)
      · exact h1
      · simp only [Bool.and_eq_true, decide_eq_true_eq] at h1
        omega
    · exact Or.inl
theorem gv_set (hg : gv own col f s one C F S) {j a b : Nat} (mv : Int32) (h : j < 8) (ha : a ≤ 1) (hb : b ≤ 5) : gv (s_own own (nI j) (nI a) (nI b)) (s_col col (nI j) (nI a) (nI b)) (s_f f (nI j) (nI a) (nI b) mv) (s_s s (nI j) (nI a) (nI b) mv) ((one &&& (((1 : Int32) <<< (nI j &&& 31)) ^^^ (-1))) ||| (nI a <<< (nI j &&& 31))) (upd C j (nI b)) (upd F j (mv &&& nI 7)) (upd S j ((mv >>> (3 &&& 31)) &&& nI 7)) := by
  have ht := tv_set (gv_tv hg) mv h ha hb
  refine ⟨ht.1, fun q hq => ⟨?_, (ht.2 q hq).2⟩⟩
  refine ow_bit hq (ht.1 q hq).1 ?_
  rw [set_bits h hq ha, s_own_f h ha hb]
  by_cases e : q = j
  · rw [if_pos e, if_pos e]
  · rw [if_neg e, if_neg e]
    exact gv_bit hg hq
theorem tv_paint (hg : tv own col f s O C F S) {j b : Nat} (h : j < 8) (hb : b ≤ 5) : tv own (p_col col (nI j) (nI b)) f s O (upd C j (nI b)) F S := by
  have hc : ∀ q, q < 8 → p_col col (nI j) (nI b) q ≤ 5 ∧ upd C j (nI b) q = nI (p_col col (nI j) (nI b) q) := by
    intro q hq
    rw [p_col_f h hb]
    by_cases e : q = j
    · subst e; rw [if_pos rfl, pk_us]; exact ⟨hb, rfl⟩
    · rw [if_neg e, pk_un e]; exact ⟨(hg.1 q hq).2.1, (hg.2 q hq).2.1⟩
  refine ⟨fun q hq => ?_, fun q hq => ?_⟩
  · obtain ⟨h1, _, h3⟩ := hg.1 q hq
    exact ⟨h1, (hc q hq).1, h3⟩
  · obtain ⟨h1, _, h3⟩ := hg.2 q hq
    exact ⟨h1, (hc q hq).2, h3⟩
theorem gv_paint (hg : gv own col f s one C F S) {j b : Nat} (h : j < 8) (hb : b ≤ 5) : gv own (p_col col (nI j) (nI b)) f s one (upd C j (nI b)) F S := tv_paint (gv_tv hg) h hb
theorem ok_flip (hok : pg_ok own col f s) (p : Nat) : pg_ok (flip1 own p) col f s := by
  intro q hq
  obtain ⟨h1, h2⟩ := hok q hq
  refine ⟨?_, h2⟩
  unfold flip1
  split <;> omega
theorem tv_flip (hg : tv own col f s O C F S) {p : Nat} (hp : p < 8) : tv (flip1 own p) col f s (upd O p (nI (1 - own p))) C F S := by
  refine ⟨ok_flip hg.1 p, fun q hq => ?_⟩
  obtain ⟨h1, h2⟩ := hg.2 q hq
  refine ⟨?_, h2⟩
  unfold flip1
  by_cases e : q = p
  · subst e; rw [if_pos rfl, pk_us]
  · rw [if_neg e, pk_un e]; exact h1
theorem gv_flip (hg : gv own col f s one C F S) {p : Nat} (hp : p < 8) : gv (flip1 own p) col f s (one ^^^ ((1 : Int32) <<< (nI p &&& 31))) C F S := by
  refine ⟨ok_flip hg.1 p, fun q hq => ⟨ow_bit hq (ok_flip hg.1 p q hq).1 ?_, (hg.2 q hq).2⟩⟩
  have h1 := gv_bit hg hq
  have h2 := (hg.1 q hq).1
  rw [b_xor, xb_one p (by omega)]
  unfold flip1
  by_cases e : q = p
  · rw [if_pos e, decide_eq_true e, Bool.xor_true, Bool.not_eq_true', ← Bool.not_eq_true, h1]
    omega
  · rw [if_neg e, decide_eq_false e, Bool.xor_false]
    exact h1
theorem xor_back (x y : Int32) : (x ^^^ y) ^^^ y = x := by
  apply b_ext
  intro i _
  rw [b_xor, b_xor, Bool.xor_assoc, Bool.xor_self, Bool.xor_false]
/-- the colours moved on, k of them -/
def mrc (C : Nat → Int32) : Nat → (Nat → Int32)
  | 0 => C
  | k + 1 => upd (mrc C k) k (if mrc C k k = 5 then 0 else mrc C k k + 1)
theorem mrc_ge (C : Nat → Int32) : ∀ k q, k ≤ q → mrc C k q = C q := by
  intro k
  induction k with
  | zero => intro q _; rfl
  | succ k ih => intro q h; show upd _ _ _ q = _; rw [pk_un (by omega), ih q (by omega)]
theorem mrc_lt (C : Nat → Int32) : ∀ k q, q < k → mrc C k q = if C q = 5 then 0 else C q + 1 := by
  intro k
  induction k with
  | zero => intro q h; exact absurd h (Nat.not_lt_zero _)
  | succ k ih =>
    intro q h
    show upd _ _ _ q = _
    by_cases e : q = k
    · subst e; rw [pk_us, mrc_ge C q q (Nat.le_refl _)]
    · rw [pk_un e, ih q (by omega)]
theorem m_col_ok (c : Nat) (h : c ≤ 5) : (if (nI c : Int32) = 5 then 0 else nI c + 1) = nI (if c = 5 then 0 else c + 1) ∧ (if c = 5 then 0 else c + 1) ≤ 5 := by
  have : ∀ c, c < 6 → (if (nI c : Int32) = 5 then 0 else nI c + 1) = nI (if c = 5 then 0 else c + 1) ∧ (if c = 5 then 0 else c + 1) ≤ 5 := by decide +kernel
  exact this c (by omega)
theorem ok_mir (hok : pg_ok own col f s) : pg_ok (m_own own) (m_col col) f s := by
  intro q hq
  obtain ⟨h1, h2, h3⟩ := hok q hq
  exact ⟨by unfold m_own; omega, (m_col_ok (col q) h2).2, h3⟩
theorem gv_mir (hg : gv own col f s one C F S) : gv (m_own own) (m_col col) f s (one ^^^ nI 255) (mrc C 8) F S := by
  refine ⟨ok_mir hg.1, fun q hq => ⟨ow_bit hq (ok_mir hg.1 q hq).1 ?_, ?_, (hg.2 q hq).2.2⟩⟩
  · have h1 := gv_bit hg hq
    have h2 := (hg.1 q hq).1
    rw [b_xor, show (nI 255 : Int32) = 255 from rfl, (x255 q).mpr hq, Bool.xor_true, Bool.not_eq_true', ← Bool.not_eq_true, h1]
    unfold m_own
    omega
  · rw [mrc_lt C 8 q hq, (hg.2 q hq).2.1]
    exact (m_col_ok (col q) (hg.1 q hq).2.1).1
/-- the owners turned, k of them -/
def mro (O : Nat → Int32) : Nat → (Nat → Int32)
  | 0 => O
  | k + 1 => upd (mro O k) k (1 - mro O k k)
theorem mro_ge (O : Nat → Int32) : ∀ k q, k ≤ q → mro O k q = O q := by
  intro k
  induction k with
  | zero => intro q _; rfl
  | succ k ih => intro q h; show upd _ _ _ q = _; rw [pk_un (by omega), ih q (by omega)]
theorem mro_lt (O : Nat → Int32) : ∀ k q, q < k → mro O k q = 1 - O q := by
  intro k
  induction k with
  | zero => intro q h; exact absurd h (Nat.not_lt_zero _)
  | succ k ih =>
    intro q h
    show upd _ _ _ q = _
    by_cases e : q = k
    · subst e; rw [pk_us, mro_ge O q q (Nat.le_refl _)]
    · rw [pk_un e, ih q (by omega)]
theorem tv_mir (hg : tv own col f s O C F S) : tv (m_own own) (m_col col) f s (mro O 8) (mrc C 8) F S := by
  refine ⟨ok_mir hg.1, fun q hq => ⟨?_, ?_, (hg.2 q hq).2.2⟩⟩
  · rw [mro_lt O 8 q hq, (hg.2 q hq).1]
    exact i1_sub (hg.1 q hq).1
  · rw [mrc_lt C 8 q hq, (hg.2 q hq).2.1]
    exact (m_col_ok (col q) (hg.1 q hq).2.1).1
end
/-! questions -/
noncomputable def a_win (own col f s : Nat → Nat) (x : Int32) : Int32 := cif (a_bad x) (-1) (cif (∃ π, pg_win own col f s 0 π x.toNatClampNeg) 0 1)
noncomputable def a_good (own col f s : Nat → Nat) (x ch : Int32) : Int32 := cif (a_npl x) 0 (cif (gd own col f s x.toNatClampNeg ch) 1 0)
noncomputable def a_plans (own col f s : Nat → Nat) (x : Int32) : Int32 := cif (a_npl x) (-3) (nI (cnt own col f s x.toNatClampNeg 256))
/-- the first good plan, as an answer -/
def a_first (own col f s : Nat → Nat) (x r : Int32) : Prop := (a_npl x ∧ r = -3) ∨ (¬ a_npl x ∧ ∃ k, r = nI k ∧ fst own col f s x.toNatClampNeg k)
/-- turning p changes the region -/
def chg (own col f s : Nat → Nat) (p : Nat) : Prop := ¬ ∃ x, rgn own col f s x ∧ rgn (flip1 own p) col f s x
noncomputable def cns (own col f s : Nat → Nat) : Nat → Nat
  | 0 => 0
  | k + 1 => cns own col f s k + cif (chg own col f s k) 1 0
section
variable {own col f s : Nat → Nat}
theorem a_first_same {x r r' : Int32} (h : a_first own col f s x r) (h' : a_first own col f s x r') : r = r' := by
  rcases h with ⟨h1, h2⟩ | ⟨h1, k, h2, h3⟩
  · rcases h' with ⟨_, h4⟩ | ⟨h4, _⟩
    · rw [h2, h4]
    · exact absurd h1 h4
  · rcases h' with ⟨h4, _⟩ | ⟨_, k', h4, h5⟩
    · exact absurd h4 h1
    · rw [h2, h4, fst_same h3 h5]
theorem chg_iff {p : Nat} {x y : Int32} (hx : rgn own col f s x) (hy : rgn (flip1 own p) col f s y) : chg own col f s p ↔ ¬ y = x := by
  constructor
  · intro h e
    subst e
    exact h ⟨y, hx, hy⟩
  · rintro h ⟨z, h1, h2⟩
    exact h ((rgn_same hy h2).trans (rgn_same h1 hx))
theorem cns_t {k : Nat} (h : chg own col f s k) : cns own col f s (k + 1) = cns own col f s k + 1 := congrArg (cns own col f s k + ·) (cif_t h)
theorem cns_f {k : Nat} (h : ¬ chg own col f s k) : cns own col f s (k + 1) = cns own col f s k := congrArg (cns own col f s k + ·) (cif_f h)
theorem sol_rgn {V : Nat → Int32} (h : sol own col f s V) : rgn own col f s (V 0) := h.1 0 (by omega)
theorem sol_gd {V : Nat → Int32} (h : sol own col f s V) {i : Nat} (hi : i ≤ 1) (ch : Int32) : (∀ q, q < 8 → bt (V i) q = true → pg_win own col f s i (bt ch) q) ↔ gd own col f s i ch := by
  constructor
  · intro h1 q hq h2
    exact h1 q hq ((h.1 i hi q).mpr ⟨hq, h2⟩)
  · intro h1 q hq h2
    exact h1 q hq ((h.1 i hi q).mp h2).2
theorem win_class {V : Nat → Int32} (h : sol own col f s V) {j : Nat} (hj : j < 8) : (V 1 >>> (nI j &&& 31)) &&& 1 = a_win own col f s (nI j) := by
  unfold a_win
  rw [cif_f (a_bad_not hj), nI_clamp (by omega), xb_val (V 1) j (by omega)]
  have h3 := h.2.2 j
  have h4 := h.1 0 (by omega) j
  by_cases hw : ∃ π, pg_win own col f s 0 π j
  · rw [cif_t hw, if_neg]
    intro hb
    exact (h3.mp hb).2 (h4.mpr ⟨hj, hw⟩)
  · rw [cif_f hw, if_pos]
    exact h3.mpr ⟨hj, fun hb => hw (h4.mp hb).2⟩
end
end
section
/-! 14.x0d: printed by gen (walks) -/
set_option maxRecDepth 100000
/-- the class's whole state -/
abbrev GSt : Type := Int32 × Int32 × (Nat → Int32) × (Nat → Int32) × (Nat → Int32) × (Nat → Int32) × (Nat → Int32) × (Nat → Int32) × (Nat → Int32) × (Nat → Int32)
abbrev wGu (ad : Nat → Nat) (d : ClassId) (u : GSt) : va_W := wG ad d u.1 u.2.1 u.2.2.1 u.2.2.2.1 u.2.2.2.2.1 u.2.2.2.2.2.1 u.2.2.2.2.2.2.1 u.2.2.2.2.2.2.2.1 u.2.2.2.2.2.2.2.2.1 u.2.2.2.2.2.2.2.2.2
abbrev gvu (own col f s : Nat → Nat) (u : GSt) : Prop := gv own col f s u.1 u.2.2.1 u.2.2.2.1 u.2.2.2.2.1
theorem hand_class {own col f s : Nat → Nat} {one : Int32} {C F S : Nat → Int32} (hg : gv own col f s one C F S) {j : Nat} (hj : j < 8) : ow (one ^^^ ((1 : Int32) <<< (nI j &&& 31))) j = a_hand own (nI j) := by
  rw [((gv_flip hg hj).2 j hj).1]
  unfold a_hand flip1
  rw [cif_f (a_bad_not hj), nI_clamp (by omega), if_pos rfl]
theorem paint_ans {col : Nat → Nat} {j b : Nat} (hj : j < 8) (hb : b ≤ 5) : a_paint col (nI j) (nI b) = nI (col j) := by
  unfold a_paint
  rw [cif_f (a_bad_not hj), cif_f (a_ncl_not hb), nI_clamp (by omega)]
theorem good_t {own col f s : Nat → Nat} {i : Nat} {ch : Int32} (hi : i ≤ 1) (h : gd own col f s i ch) : a_good own col f s (nI i) ch = 1 := by
  unfold a_good
  rw [cif_f (a_npl_not hi), nI_clamp (by omega), cif_t h]
theorem good_f {own col f s : Nat → Nat} {i : Nat} {ch : Int32} (hi : i ≤ 1) (h : ¬ gd own col f s i ch) : a_good own col f s (nI i) ch = 0 := by
  unfold a_good
  rw [cif_f (a_npl_not hi), nI_clamp (by omega), cif_f h]
theorem plans_ok {own col f s : Nat → Nat} {i : Nat} (hi : i ≤ 1) : a_plans own col f s (nI i) = nI (cnt own col f s i 256) := by
  unfold a_plans
  rw [cif_f (a_npl_not hi), nI_clamp (by omega)]
theorem first_ok {own col f s : Nat → Nat} {i k : Nat} (hi : i ≤ 1) (h : fst own col f s i k) : a_first own col f s (nI i) (nI k) := Or.inr ⟨a_npl_not hi, k, rfl, by rw [nI_clamp (by omega)]; exact h⟩
set_option maxHeartbeats 4000000 in
set_option maxRecDepth 100000 in
theorem m0_winner (l : Launch) (D : va_G) (ad : Nat → Nat) (d : ClassId) (one dep : Int32) (C F S L T G V R : Nat → Int32) (own col f1 f2 : Nat → Nat) (hg : gv own col f1 f2 one C F S) (x : Int32) : CI l yX0_winner cX0_winner 2 (some .int) 4 98 D d [.ref (ad 0), .int x] (wG ad d one dep C F S L T G V R) (fun r (u : GSt) => r = a_win own col f1 f2 x ∧ gvu own col f1 f2 u) (fun (u : GSt) => wGu ad d u) := by
  refine CI_of (by decide) (Nat.le_of_ble_eq_true rfl) (fun p e s m below meth c A Q ls E hret => ?_)
  obtain ⟨hx, hb, hml, hown, hts, hA, hK, hP, hD, hS, hl⟩ := E
  have hown : s.vm.findClass RX0 = some m.cls := hown
  have hl : lv_has ls 2 [(0, .ref (ad 0)), (1, .int x)] := hl
  refine lv_iload_n hx hb dX0_winner_0 rfl (lv_at hl 1 rfl) ?_
  refine x_si [.int x] [] 1 (m0_bad l D d (wG ad d one dep C F S L T G V R) x) hx hb hml hown hts hA hK hP hD hS (lw_S q67 q68 q21 q69) (by decide +kernel) rfl ⟨Nat.le_of_ble_eq_true rfl, Nat.le_of_ble_eq_true rfl⟩ rfl hl.1 (Nat.le_of_ble_eq_true rfl) ⟨Nat.zero_le _, Nat.zero_le _⟩ dX0_winner_1 (fun r u H locs hw hP hD hS => ?_)
  rcases hw with ⟨rfl, hbx⟩ | ⟨rfl, j, hj, rfl⟩
  · refine lv_if_eq (tgt := 9) hx hb dX0_winner_4 (by decide) (fun cc9 => absurd cc9 (by decide)) (fun _ => ?_)
    refine lv_iconst (v := (-1)) hx hb dX0_winner_7 (by decide) ?_
    exact hret _ _ _ _ _ (one, dep, C, F, S, L, T, G, V, R) dX0_winner_8 ⟨(cif_t hbx).symm, hg⟩ hP hD hS
  · refine lv_if_eq (tgt := 9) hx hb dX0_winner_4 (by decide) (fun _ => ?_) (fun cc9 => absurd (by decide) cc9)
    refine lv_aload_n hx hb dX0_winner_9 rfl (lv_at hl 0 rfl) ?_
    refine x_vv [] [] 0 (m0_solve l D ad d one dep C F S L T G V R own col f1 f2 hg) hx hb hml hown hts hA hK hP hD hS (lw_V q90 q92 qs1 q21 q93) (by decide +kernel) rfl ⟨Nat.le_of_ble_eq_true rfl, Nat.le_of_ble_eq_true rfl⟩ rfl rfl rfl rfl hl.1 (Nat.le_of_ble_eq_true rfl) ⟨Nat.zero_le _, Nat.zero_le _⟩ dX0_winner_10 (fun u H locs hw hP hD hS => ?_)
    obtain ⟨L1, T1, G1, V1⟩ := u
    have hsol1 : sol own col f1 f2 V1 := hw
    have hP : va_P D vwCl (wG ad d one (nI 0) C F S L1 T1 G1 V1 R) H := hP
    have hD : va_D A (wG ad d one (nI 0) C F S L1 T1 G1 V1 R) := hD
    refine lv_aload_n hx hb dX0_winner_13 rfl (lv_at hl 0 rfl) ?_
    refine x_g0 8 28 hx hb hown hts hK hP (by decide) q39 rfl rfl dX0_winner_14 ?_
    refine lv_iconst (v := 1) hx hb dX0_winner_17 (by decide) ?_
    refine x_ald 1 rfl 7 (by decide) (by decide) hx hb hK hP rfl dX0_winner_18 ?_
    refine lv_iload_n hx hb dX0_winner_19 rfl (lv_at hl 1 rfl) ?_
    refine lv_ishr hx hb dX0_winner_20 ?_
    refine lv_iconst (v := 1) hx hb dX0_winner_21 (by decide) ?_
    refine lv_iand hx hb dX0_winner_22 ?_
    exact hret _ _ _ _ _ (one, nI 0, C, F, S, L1, T1, G1, V1, R) dX0_winner_23 ⟨win_class hsol1 hj, hg⟩ hP hD hS
set_option maxHeartbeats 4000000 in
set_option maxRecDepth 100000 in
theorem m0_region (l : Launch) (D : va_G) (ad : Nat → Nat) (d : ClassId) (one dep : Int32) (C F S L T G V R : Nat → Int32) (own col f1 f2 : Nat → Nat) (hg : gv own col f1 f2 one C F S) : CI l yX0_region cX0_region 1 (some .int) 4 98 D d [.ref (ad 0)] (wG ad d one dep C F S L T G V R) (fun r (u : GSt) => rgn own col f1 f2 r ∧ gvu own col f1 f2 u) (fun (u : GSt) => wGu ad d u) := by
  refine CI_of (by decide) (Nat.le_of_ble_eq_true rfl) (fun p e s m below meth c A Q ls E hret => ?_)
  obtain ⟨hx, hb, hml, hown, hts, hA, hK, hP, hD, hS, hl⟩ := E
  have hown : s.vm.findClass RX0 = some m.cls := hown
  have hl : lv_has ls 1 [(0, .ref (ad 0))] := hl
  refine lv_aload_n hx hb dX0_region_0 rfl (lv_at hl 0 rfl) ?_
  refine x_vv [] [] 0 (m0_solve l D ad d one dep C F S L T G V R own col f1 f2 hg) hx hb hml hown hts hA hK hP hD hS (lw_V q90 q92 qs1 q21 q93) (by decide +kernel) rfl ⟨Nat.le_of_ble_eq_true rfl, Nat.le_of_ble_eq_true rfl⟩ rfl rfl rfl rfl hl.1 (Nat.le_of_ble_eq_true rfl) ⟨Nat.zero_le _, Nat.zero_le _⟩ dX0_region_1 (fun u H locs hw hP hD hS => ?_)
  obtain ⟨L1, T1, G1, V1⟩ := u
  have hsol1 : sol own col f1 f2 V1 := hw
  have hP : va_P D vwCl (wG ad d one (nI 0) C F S L1 T1 G1 V1 R) H := hP
  have hD : va_D A (wG ad d one (nI 0) C F S L1 T1 G1 V1 R) := hD
  refine lv_aload_n hx hb dX0_region_4 rfl (lv_at hl 0 rfl) ?_
  refine x_g0 8 28 hx hb hown hts hK hP (by decide) q39 rfl rfl dX0_region_5 ?_
  refine lv_iconst (v := 0) hx hb dX0_region_8 (by decide) ?_
  refine x_ald 0 rfl 7 (by decide) (by decide) hx hb hK hP rfl dX0_region_9 ?_
  exact hret _ _ _ _ _ (one, nI 0, C, F, S, L1, T1, G1, V1, R) dX0_region_10 ⟨sol_rgn hsol1, hg⟩ hP hD hS
set_option maxHeartbeats 4000000 in
set_option maxRecDepth 100000 in
theorem m0_good (l : Launch) (D : va_G) (ad : Nat → Nat) (d : ClassId) (one dep : Int32) (C F S L T G V R : Nat → Int32) (own col f1 f2 : Nat → Nat) (hg : gv own col f1 f2 one C F S) (x ch : Int32) : CI l yX0_good cX0_good 3 (some .boolean) 5 119 D d [.ref (ad 0), .int x, .int ch] (wG ad d one dep C F S L T G V R) (fun r (u : GSt) => r = a_good own col f1 f2 x ch ∧ gvu own col f1 f2 u) (fun (u : GSt) => wGu ad d u) := by
  refine CZ_of (by decide) (Nat.le_of_ble_eq_true rfl) (fun p e s m below meth c A Q ls E hret => ?_)
  obtain ⟨hx, hb, hml, hown, hts, hA, hK, hP, hD, hS, hl⟩ := E
  have hown : s.vm.findClass RX0 = some m.cls := hown
  have hl : lv_has ls 3 [(0, .ref (ad 0)), (1, .int x), (2, .int ch)] := hl
  refine lv_iload_n hx hb dX0_good_0 rfl (lv_at hl 1 rfl) ?_
  refine lv_if_lt (tgt := 9) hx hb dX0_good_1 (by decide) (fun c1 => ?_) (fun c1 => ?_)
  · refine lv_iconst (v := 0) hx hb dX0_good_9 (by decide) ?_
    exact hret _ _ _ _ _ (one, dep, C, F, S, L, T, G, V, R) dX0_good_10 (Or.inl rfl) ⟨(cif_t (Or.inl c1)).symm, hg⟩ hP hD hS
  · refine lv_iload_n hx hb dX0_good_4 rfl (lv_at hl 1 rfl) ?_
    refine lv_iconst (v := 1) hx hb dX0_good_5 (by decide) ?_
    refine lv_icmp_le (tgt := 11) hx hb dX0_good_6 (by decide) (fun c6 => ?_) (fun c6 => ?_)
    · obtain ⟨i, hi, rfl⟩ := pl_of c1 c6
      refine lv_aload_n hx hb dX0_good_11 rfl (lv_at hl 0 rfl) ?_
      refine x_vv [] [] 0 (m0_solve l D ad d one dep C F S L T G V R own col f1 f2 hg) hx hb hml hown hts hA hK hP hD hS (lw_V q90 q92 qs1 q21 q93) (by decide +kernel) rfl ⟨Nat.le_of_ble_eq_true rfl, Nat.le_of_ble_eq_true rfl⟩ rfl rfl rfl rfl hl.1 (Nat.le_of_ble_eq_true rfl) ⟨Nat.zero_le _, Nat.zero_le _⟩ dX0_good_12 (fun u H locs hw hP hD hS => ?_)
      obtain ⟨L1, T1, G1, V1⟩ := u
      have hsol1 : sol own col f1 f2 V1 := hw
      have hP : va_P D vwCl (wG ad d one (nI 0) C F S L1 T1 G1 V1 R) H := hP
      have hD : va_D A (wG ad d one (nI 0) C F S L1 T1 G1 V1 R) := hD
      refine lv_aload_n hx hb dX0_good_15 rfl (lv_at hl 0 rfl) ?_
      refine lv_iload_n hx hb dX0_good_16 rfl (lv_at hl 1 rfl) ?_
      refine lv_iload_n hx hb dX0_good_17 rfl (lv_at hl 2 rfl) ?_
      refine lv_aload_n hx hb dX0_good_18 rfl (lv_at hl 0 rfl) ?_
      refine x_g0 8 28 hx hb hown hts hK hP (by decide) q39 rfl rfl dX0_good_19 ?_
      refine lv_iload_n hx hb dX0_good_22 rfl (lv_at hl 1 rfl) ?_
      refine x_ald i rfl 7 (by omega) (by decide) hx hb hK hP rfl dX0_good_23 ?_
      refine x_vi [.int (nI i), .int ch, .int (V1 i)] [] 3 (m0_isGood l D ad d one (nI 0) C F S L1 T1 G1 V1 R own col f1 f2 hg i hi ch (V1 i)) hx hb hml hown hts hA hK hP hD hS (lw_V q134 q136 qs10 q21 q137) (by decide +kernel) rfl ⟨Nat.le_of_ble_eq_true rfl, Nat.le_of_ble_eq_true rfl⟩ rfl rfl rfl rfl hl.1 (Nat.le_of_ble_eq_true rfl) ⟨Nat.zero_le _, Nat.zero_le _⟩ dX0_good_24 (fun r R1 H locs hw hP hD hS => ?_)
      have hP : va_P D vwCl (wG ad d one (nI 0) C F S L1 T1 G1 V1 R1) H := hP
      have hD : va_D A (wG ad d one (nI 0) C F S L1 T1 G1 V1 R1) := hD
      rcases hw with ⟨rfl, hgd⟩ | ⟨rfl, hgd⟩
      · exact hret _ _ _ _ _ (one, nI 0, C, F, S, L1, T1, G1, V1, R1) dX0_good_27 (Or.inr rfl) ⟨(good_t hi ((sol_gd hsol1 hi ch).mp hgd)).symm, hg⟩ hP hD hS
      · exact hret _ _ _ _ _ (one, nI 0, C, F, S, L1, T1, G1, V1, R1) dX0_good_27 (Or.inl rfl) ⟨(good_f hi (fun h => hgd ((sol_gd hsol1 hi ch).mpr h))).symm, hg⟩ hP hD hS
    · refine lv_iconst (v := 0) hx hb dX0_good_9 (by decide) ?_
      exact hret _ _ _ _ _ (one, dep, C, F, S, L, T, G, V, R) dX0_good_10 (Or.inl rfl) ⟨(cif_t (Or.inr (i32_nle c6))).symm, hg⟩ hP hD hS
set_option maxHeartbeats 4000000 in
set_option maxRecDepth 100000 in
theorem m0_plans (l : Launch) (D : va_G) (ad : Nat → Nat) (d : ClassId) (one dep : Int32) (C F S L T G V R : Nat → Int32) (own col f1 f2 : Nat → Nat) (hg : gv own col f1 f2 one C F S) (x : Int32) : CI l yX0_plans cX0_plans 5 (some .int) 5 119 D d [.ref (ad 0), .int x] (wG ad d one dep C F S L T G V R) (fun r (u : GSt) => r = a_plans own col f1 f2 x ∧ gvu own col f1 f2 u) (fun (u : GSt) => wGu ad d u) := by
  refine CI_of (by decide) (Nat.le_of_ble_eq_true rfl) (fun p e s m below meth c A Q ls E hret => ?_)
  obtain ⟨hx, hb, hml, hown, hts, hA, hK, hP, hD, hS, hl⟩ := E
  have hown : s.vm.findClass RX0 = some m.cls := hown
  have hl : lv_has ls 5 [(0, .ref (ad 0)), (1, .int x)] := hl
  refine lv_iload_n hx hb dX0_plans_0 rfl (lv_at hl 1 rfl) ?_
  refine lv_if_lt (tgt := 9) hx hb dX0_plans_1 (by decide) (fun c1 => ?_) (fun c1 => ?_)
  · refine lv_bipush (v := (-3)) hx hb dX0_plans_9 (by decide) ?_
    exact hret _ _ _ _ _ (one, dep, C, F, S, L, T, G, V, R) dX0_plans_11 ⟨(cif_t (Or.inl c1)).symm, hg⟩ hP hD hS
  · refine lv_iload_n hx hb dX0_plans_4 rfl (lv_at hl 1 rfl) ?_
    refine lv_iconst (v := 1) hx hb dX0_plans_5 (by decide) ?_
    refine lv_icmp_le (tgt := 12) hx hb dX0_plans_6 (by decide) (fun c6 => ?_) (fun c6 => ?_)
    · obtain ⟨i, hi, rfl⟩ := pl_of c1 c6
      refine lv_aload_n hx hb dX0_plans_12 rfl (lv_at hl 0 rfl) ?_
      refine x_vv [] [] 0 (m0_solve l D ad d one dep C F S L T G V R own col f1 f2 hg) hx hb hml hown hts hA hK hP hD hS (lw_V q90 q92 qs1 q21 q93) (by decide +kernel) rfl ⟨Nat.le_of_ble_eq_true rfl, Nat.le_of_ble_eq_true rfl⟩ rfl rfl rfl rfl hl.1 (Nat.le_of_ble_eq_true rfl) ⟨Nat.zero_le _, Nat.zero_le _⟩ dX0_plans_13 (fun u H locs hw hP hD hS => ?_)
      obtain ⟨L1, T1, G1, V1⟩ := u
      have hsol1 : sol own col f1 f2 V1 := hw
      have hP : va_P D vwCl (wG ad d one (nI 0) C F S L1 T1 G1 V1 R) H := hP
      have hD : va_D A (wG ad d one (nI 0) C F S L1 T1 G1 V1 R) := hD
      refine lv_iconst (v := 0) hx hb dX0_plans_16 (by decide) ?_
      refine lv_istore_n (lv' := [(2, .int 0), (0, .ref (ad 0)), (1, .int (nI i))]) hx hb dX0_plans_17 rfl hl (by decide) rfl (fun ls hl => ?_)
      refine lv_iconst (v := 0) hx hb dX0_plans_18 (by decide) ?_
      refine lv_istore_n (lv' := [(3, .int 0), (2, .int 0), (0, .ref (ad 0)), (1, .int (nI i))]) hx hb dX0_plans_19 rfl hl (by decide) rfl (fun ls hl => ?_)
      have lp : ∀ (n k : Nat) (R : Nat → Int32), k + n = 256 → ∀ (H : Heap) (locs : List Loc) (ls : Array Slot), va_P D vwCl (wG ad d one (nI 0) C F S L1 T1 G1 V1 R) H → va_D A (wG ad d one (nI 0) C F S L1 T1 G1 V1 R) → va_S A s.heap H locs → lv_has ls 5 [(3, .int (nI k)), (2, .int (nI (cnt own col f1 f2 i k))), (0, .ref (ad 0)), (1, .int (nI i))] → W p l e { frames := 5, cells := 0, slots := 0, locals := 119 } s m ([.ref (ad 0), .int (nI i)] : List Value).toArray below meth c H locs 0 0 Q (F0 m 20 ls []) := by
        intro n
        induction n with
        | zero =>
          intro k R hk H locs ls hP hD hS hl
          obtain rfl : k = 256 := by omega
          refine lv_iload_n hx hb dX0_plans_20 rfl (lv_at hl 0 rfl) ?_
          refine lv_sipush (v := nI 255) hx hb dX0_plans_21 (by decide) ?_
          refine lv_icmp_gt (tgt := 55) hx hb dX0_plans_24 (by decide) (fun _ => ?_) (fun cc9 => absurd (nI_lt (by decide) (by decide)) cc9)
          refine lv_iload_n hx hb dX0_plans_55 rfl (lv_at hl 1 rfl) ?_
          exact hret _ _ _ _ _ (one, nI 0, C, F, S, L1, T1, G1, V1, R) dX0_plans_56 ⟨(plans_ok hi).symm, hg⟩ hP hD hS
        | succ n ih =>
          intro k R hk H locs ls hP hD hS hl
          refine lv_iload_n hx hb dX0_plans_20 rfl (lv_at hl 0 rfl) ?_
          refine lv_sipush (v := nI 255) hx hb dX0_plans_21 (by decide) ?_
          refine lv_icmp_gt (tgt := 55) hx hb dX0_plans_24 (by decide) (fun cc9 => absurd cc9 (nI_nlt (by omega) (by decide))) (fun _ => ?_)
          refine lv_aload_n hx hb dX0_plans_27 rfl (lv_at hl 2 rfl) ?_
          refine lv_iload_n hx hb dX0_plans_28 rfl (lv_at hl 3 rfl) ?_
          refine lv_iload_n hx hb dX0_plans_29 rfl (lv_at hl 0 rfl) ?_
          refine lv_aload_n hx hb dX0_plans_30 rfl (lv_at hl 2 rfl) ?_
          refine x_g0 8 28 hx hb hown hts hK hP (by decide) q39 rfl rfl dX0_plans_31 ?_
          refine lv_iload_n hx hb dX0_plans_34 rfl (lv_at hl 3 rfl) ?_
          refine x_ald i rfl 7 (by omega) (by decide) hx hb hK hP rfl dX0_plans_35 ?_
          refine x_vi [.int (nI i), .int (nI k), .int (V1 i)] [] 3 (m0_isGood l D ad d one (nI 0) C F S L1 T1 G1 V1 R own col f1 f2 hg i hi (nI k) (V1 i)) hx hb hml hown hts hA hK hP hD hS (lw_V q134 q136 qs10 q21 q137) (by decide +kernel) rfl ⟨Nat.le_of_ble_eq_true rfl, Nat.le_of_ble_eq_true rfl⟩ rfl rfl rfl rfl hl.1 (Nat.le_of_ble_eq_true rfl) ⟨Nat.zero_le _, Nat.zero_le _⟩ dX0_plans_36 (fun r R1 H locs hw hP hD hS => ?_)
          have hP : va_P D vwCl (wG ad d one (nI 0) C F S L1 T1 G1 V1 R1) H := hP
          have hD : va_D A (wG ad d one (nI 0) C F S L1 T1 G1 V1 R1) := hD
          rcases hw with ⟨rfl, hgd⟩ | ⟨rfl, hgd⟩
          · refine lv_istore (lv' := [(4, .int 1), (3, .int (nI k)), (2, .int (nI (cnt own col f1 f2 i k))), (0, .ref (ad 0)), (1, .int (nI i))]) hx hb dX0_plans_39 hl (by decide) rfl (fun ls hl => ?_)
            refine lv_iload hx hb dX0_plans_41 (lv_at hl 0 rfl) ?_
            refine lv_if_eq (tgt := 49) hx hb dX0_plans_43 (by decide) (fun cc9 => absurd cc9 (by decide)) (fun _ => ?_)
            refine lv_iinc (v := nI ((cnt own col f1 f2 i k) + 1)) (lv' := [(2, .int (nI ((cnt own col f1 f2 i k) + 1))), (4, .int 1), (3, .int (nI k)), (0, .ref (ad 0)), (1, .int (nI i))]) hx hb dX0_plans_46 hl (k := 2) rfl (nI_i1 _) (by decide) rfl (fun ls hl => ?_)
            refine lv_iinc (v := nI (k + 1)) (lv' := [(3, .int (nI (k + 1))), (2, .int (nI ((cnt own col f1 f2 i k) + 1))), (4, .int 1), (0, .ref (ad 0)), (1, .int (nI i))]) hx hb dX0_plans_49 hl (k := 2) rfl (nI_i1 _) (by decide) rfl (fun ls hl => ?_)
            refine lv_goto (tgt := 20) hx hb dX0_plans_52 (by decide) ?_
            have e9 : cnt own col f1 f2 i (k + 1) = cnt own col f1 f2 i k + 1 := cnt_t ((sol_gd hsol1 hi _).mp hgd)
            exact ih (k + 1) R1 (by omega) H locs ls hP hD hS (by rw [e9]; exact lv_sub hl [0, 1, 3, 4] rfl)
          · refine lv_istore (lv' := [(4, .int 0), (3, .int (nI k)), (2, .int (nI (cnt own col f1 f2 i k))), (0, .ref (ad 0)), (1, .int (nI i))]) hx hb dX0_plans_39 hl (by decide) rfl (fun ls hl => ?_)
            refine lv_iload hx hb dX0_plans_41 (lv_at hl 0 rfl) ?_
            refine lv_if_eq (tgt := 49) hx hb dX0_plans_43 (by decide) (fun _ => ?_) (fun cc9 => absurd (by decide) cc9)
            refine lv_iinc (v := nI (k + 1)) (lv' := [(3, .int (nI (k + 1))), (4, .int 0), (2, .int (nI (cnt own col f1 f2 i k))), (0, .ref (ad 0)), (1, .int (nI i))]) hx hb dX0_plans_49 hl (k := 1) rfl (nI_i1 _) (by decide) rfl (fun ls hl => ?_)
            refine lv_goto (tgt := 20) hx hb dX0_plans_52 (by decide) ?_
            have e9 : cnt own col f1 f2 i (k + 1) = cnt own col f1 f2 i k := cnt_f (fun h => hgd ((sol_gd hsol1 hi _).mpr h))
            exact ih (k + 1) R1 (by omega) H locs ls hP hD hS (by rw [e9]; exact lv_sub hl [0, 2, 3, 4] rfl)
      exact lp 256 0 R rfl _ _ ls hP hD hS (lv_sub hl [0, 1, 2, 3] rfl)
    · refine lv_bipush (v := (-3)) hx hb dX0_plans_9 (by decide) ?_
      exact hret _ _ _ _ _ (one, dep, C, F, S, L, T, G, V, R) dX0_plans_11 ⟨(cif_t (Or.inr (i32_nle c6))).symm, hg⟩ hP hD hS
set_option maxHeartbeats 4000000 in
set_option maxRecDepth 100000 in
theorem m0_firstPlan (l : Launch) (D : va_G) (ad : Nat → Nat) (d : ClassId) (one dep : Int32) (C F S L T G V R : Nat → Int32) (own col f1 f2 : Nat → Nat) (hg : gv own col f1 f2 one C F S) (x : Int32) : CI l yX0_firstPlan cX0_firstPlan 4 (some .int) 5 119 D d [.ref (ad 0), .int x] (wG ad d one dep C F S L T G V R) (fun r (u : GSt) => a_first own col f1 f2 x r ∧ gvu own col f1 f2 u) (fun (u : GSt) => wGu ad d u) := by
  refine CI_of (by decide) (Nat.le_of_ble_eq_true rfl) (fun p e s m below meth c A Q ls E hret => ?_)
  obtain ⟨hx, hb, hml, hown, hts, hA, hK, hP, hD, hS, hl⟩ := E
  have hown : s.vm.findClass RX0 = some m.cls := hown
  have hl : lv_has ls 4 [(0, .ref (ad 0)), (1, .int x)] := hl
  refine lv_iload_n hx hb dX0_firstPlan_0 rfl (lv_at hl 1 rfl) ?_
  refine lv_if_lt (tgt := 9) hx hb dX0_firstPlan_1 (by decide) (fun c1 => ?_) (fun c1 => ?_)
  · refine lv_bipush (v := (-3)) hx hb dX0_firstPlan_9 (by decide) ?_
    exact hret _ _ _ _ _ (one, dep, C, F, S, L, T, G, V, R) dX0_firstPlan_11 ⟨Or.inl ⟨(Or.inl c1), rfl⟩, hg⟩ hP hD hS
  · refine lv_iload_n hx hb dX0_firstPlan_4 rfl (lv_at hl 1 rfl) ?_
    refine lv_iconst (v := 1) hx hb dX0_firstPlan_5 (by decide) ?_
    refine lv_icmp_le (tgt := 12) hx hb dX0_firstPlan_6 (by decide) (fun c6 => ?_) (fun c6 => ?_)
    · obtain ⟨i, hi, rfl⟩ := pl_of c1 c6
      refine lv_aload_n hx hb dX0_firstPlan_12 rfl (lv_at hl 0 rfl) ?_
      refine x_vv [] [] 0 (m0_solve l D ad d one dep C F S L T G V R own col f1 f2 hg) hx hb hml hown hts hA hK hP hD hS (lw_V q90 q92 qs1 q21 q93) (by decide +kernel) rfl ⟨Nat.le_of_ble_eq_true rfl, Nat.le_of_ble_eq_true rfl⟩ rfl rfl rfl rfl hl.1 (Nat.le_of_ble_eq_true rfl) ⟨Nat.zero_le _, Nat.zero_le _⟩ dX0_firstPlan_13 (fun u H locs hw hP hD hS => ?_)
      obtain ⟨L1, T1, G1, V1⟩ := u
      have hsol1 : sol own col f1 f2 V1 := hw
      have hP : va_P D vwCl (wG ad d one (nI 0) C F S L1 T1 G1 V1 R) H := hP
      have hD : va_D A (wG ad d one (nI 0) C F S L1 T1 G1 V1 R) := hD
      have lp : ∀ (n k : Nat) (x : Int32) (R : Nat → Int32), k + n = 255 → (∀ j, j < k → ¬ gd own col f1 f2 i (nI j)) → ((x = 1 ∧ gd own col f1 f2 i (nI k)) ∨ (x = 0 ∧ ¬ gd own col f1 f2 i (nI k))) → ∀ (H : Heap) (locs : List Loc) (ls : Array Slot), va_P D vwCl (wG ad d one (nI 0) C F S L1 T1 G1 V1 R) H → va_D A (wG ad d one (nI 0) C F S L1 T1 G1 V1 R) → va_S A s.heap H locs → lv_has ls 4 [(3, .int x), (2, .int (nI k)), (0, .ref (ad 0)), (1, .int (nI i))] → W p l e { frames := 5, cells := 0, slots := 0, locals := 119 } s m ([.ref (ad 0), .int (nI i)] : List Value).toArray below meth c H locs 0 0 Q (F0 m 31 ls []) := by
        intro n
        induction n with
        | zero =>
          intro k x R hk hno hx2 H locs ls hP hD hS hl
          obtain rfl : k = 255 := by omega
          rcases hx2 with ⟨rfl, hgd⟩ | ⟨rfl, hgd⟩
          · refine lv_iload_n hx hb dX0_firstPlan_31 rfl (lv_at hl 0 rfl) ?_
            refine lv_if_ne (tgt := 61) hx hb dX0_firstPlan_32 (by decide) (fun _ => ?_) (fun cc9 => absurd cc9 (by decide))
            refine lv_iload_n hx hb dX0_firstPlan_61 rfl (lv_at hl 1 rfl) ?_
            exact hret _ _ _ _ _ (one, nI 0, C, F, S, L1, T1, G1, V1, R) dX0_firstPlan_62 ⟨first_ok hi ⟨by omega, hgd, hno⟩, hg⟩ hP hD hS
          · obtain ⟨b9, h1, h2⟩ := gd_num hsol1 hi
            rcases (show b9 < 255 ∨ b9 = 255 by omega) with h3 | h3
            · exact absurd h2 (hno b9 h3)
            · subst h3; exact absurd h2 hgd
        | succ n ih =>
          intro k x R hk hno hx2 H locs ls hP hD hS hl
          rcases hx2 with ⟨rfl, hgd⟩ | ⟨rfl, hgd⟩
          · refine lv_iload_n hx hb dX0_firstPlan_31 rfl (lv_at hl 0 rfl) ?_
            refine lv_if_ne (tgt := 61) hx hb dX0_firstPlan_32 (by decide) (fun _ => ?_) (fun cc9 => absurd cc9 (by decide))
            refine lv_iload_n hx hb dX0_firstPlan_61 rfl (lv_at hl 1 rfl) ?_
            exact hret _ _ _ _ _ (one, nI 0, C, F, S, L1, T1, G1, V1, R) dX0_firstPlan_62 ⟨first_ok hi ⟨by omega, hgd, hno⟩, hg⟩ hP hD hS
          · refine lv_iload_n hx hb dX0_firstPlan_31 rfl (lv_at hl 0 rfl) ?_
            refine lv_if_ne (tgt := 61) hx hb dX0_firstPlan_32 (by decide) (fun cc9 => absurd (by decide) cc9) (fun _ => ?_)
            refine lv_iload_n hx hb dX0_firstPlan_35 rfl (lv_at hl 1 rfl) ?_
            refine lv_sipush (v := nI 255) hx hb dX0_firstPlan_36 (by decide) ?_
            refine lv_icmp_ge (tgt := 61) hx hb dX0_firstPlan_39 (by decide) (fun cc9 => absurd cc9 (nI_ge (by omega) (by decide))) (fun _ => ?_)
            refine lv_iinc (v := nI (k + 1)) (lv' := [(2, .int (nI (k + 1))), (3, .int 0), (0, .ref (ad 0)), (1, .int (nI i))]) hx hb dX0_firstPlan_42 hl (k := 1) rfl (nI_i1 _) (by decide) rfl (fun ls hl => ?_)
            refine lv_aload_n hx hb dX0_firstPlan_45 rfl (lv_at hl 2 rfl) ?_
            refine lv_iload_n hx hb dX0_firstPlan_46 rfl (lv_at hl 3 rfl) ?_
            refine lv_iload_n hx hb dX0_firstPlan_47 rfl (lv_at hl 0 rfl) ?_
            refine lv_aload_n hx hb dX0_firstPlan_48 rfl (lv_at hl 2 rfl) ?_
            refine x_g0 8 28 hx hb hown hts hK hP (by decide) q39 rfl rfl dX0_firstPlan_49 ?_
            refine lv_iload_n hx hb dX0_firstPlan_52 rfl (lv_at hl 3 rfl) ?_
            refine x_ald i rfl 7 (by omega) (by decide) hx hb hK hP rfl dX0_firstPlan_53 ?_
            refine x_vi [.int (nI i), .int (nI (k + 1)), .int (V1 i)] [] 3 (m0_isGood l D ad d one (nI 0) C F S L1 T1 G1 V1 R own col f1 f2 hg i hi (nI (k + 1)) (V1 i)) hx hb hml hown hts hA hK hP hD hS (lw_V q134 q136 qs10 q21 q137) (by decide +kernel) rfl ⟨Nat.le_of_ble_eq_true rfl, Nat.le_of_ble_eq_true rfl⟩ rfl rfl rfl rfl hl.1 (Nat.le_of_ble_eq_true rfl) ⟨Nat.zero_le _, Nat.zero_le _⟩ dX0_firstPlan_54 (fun r R1 H locs hw hP hD hS => ?_)
            have hP : va_P D vwCl (wG ad d one (nI 0) C F S L1 T1 G1 V1 R1) H := hP
            have hD : va_D A (wG ad d one (nI 0) C F S L1 T1 G1 V1 R1) := hD
            rcases hw with ⟨rfl, hgd2⟩ | ⟨rfl, hgd2⟩
            · refine lv_istore_n (lv' := [(3, .int 1), (2, .int (nI (k + 1))), (0, .ref (ad 0)), (1, .int (nI i))]) hx hb dX0_firstPlan_57 rfl hl (by decide) rfl (fun ls hl => ?_)
              refine lv_goto (tgt := 31) hx hb dX0_firstPlan_58 (by decide) ?_
              exact ih (k + 1) _ R1 (by omega) (lt_s hno hgd) (Or.inl ⟨rfl, (sol_gd hsol1 hi _).mp hgd2⟩) H locs ls hP hD hS (lv_sub hl [0, 1, 2, 3] rfl)
            · refine lv_istore_n (lv' := [(3, .int 0), (2, .int (nI (k + 1))), (0, .ref (ad 0)), (1, .int (nI i))]) hx hb dX0_firstPlan_57 rfl hl (by decide) rfl (fun ls hl => ?_)
              refine lv_goto (tgt := 31) hx hb dX0_firstPlan_58 (by decide) ?_
              exact ih (k + 1) _ R1 (by omega) (lt_s hno hgd) (Or.inr ⟨rfl, fun h => hgd2 ((sol_gd hsol1 hi _).mpr h)⟩) H locs ls hP hD hS (lv_sub hl [0, 1, 2, 3] rfl)
      refine lv_iconst (v := 0) hx hb dX0_firstPlan_16 (by decide) ?_
      refine lv_istore_n (lv' := [(2, .int 0), (0, .ref (ad 0)), (1, .int (nI i))]) hx hb dX0_firstPlan_17 rfl hl (by decide) rfl (fun ls hl => ?_)
      refine lv_aload_n hx hb dX0_firstPlan_18 rfl (lv_at hl 1 rfl) ?_
      refine lv_iload_n hx hb dX0_firstPlan_19 rfl (lv_at hl 2 rfl) ?_
      refine lv_iconst (v := nI 0) hx hb dX0_firstPlan_20 (by decide) ?_
      refine lv_aload_n hx hb dX0_firstPlan_21 rfl (lv_at hl 1 rfl) ?_
      refine x_g0 8 28 hx hb hown hts hK hP (by decide) q39 rfl rfl dX0_firstPlan_22 ?_
      refine lv_iload_n hx hb dX0_firstPlan_25 rfl (lv_at hl 2 rfl) ?_
      refine x_ald i rfl 7 (by omega) (by decide) hx hb hK hP rfl dX0_firstPlan_26 ?_
      refine x_vi [.int (nI i), .int (nI 0), .int (V1 i)] [] 3 (m0_isGood l D ad d one (nI 0) C F S L1 T1 G1 V1 R own col f1 f2 hg i hi (nI 0) (V1 i)) hx hb hml hown hts hA hK hP hD hS (lw_V q134 q136 qs10 q21 q137) (by decide +kernel) rfl ⟨Nat.le_of_ble_eq_true rfl, Nat.le_of_ble_eq_true rfl⟩ rfl rfl rfl rfl hl.1 (Nat.le_of_ble_eq_true rfl) ⟨Nat.zero_le _, Nat.zero_le _⟩ dX0_firstPlan_27 (fun r R1 H locs hw hP hD hS => ?_)
      have hP : va_P D vwCl (wG ad d one (nI 0) C F S L1 T1 G1 V1 R1) H := hP
      have hD : va_D A (wG ad d one (nI 0) C F S L1 T1 G1 V1 R1) := hD
      rcases hw with ⟨rfl, hgd⟩ | ⟨rfl, hgd⟩
      · refine lv_istore_n (lv' := [(3, .int 1), (2, .int 0), (0, .ref (ad 0)), (1, .int (nI i))]) hx hb dX0_firstPlan_30 rfl hl (by decide) rfl (fun ls hl => ?_)
        exact lp 255 0 1 R1 rfl (fun j h => absurd h (Nat.not_lt_zero _)) (Or.inl ⟨rfl, (sol_gd hsol1 hi _).mp hgd⟩) _ _ ls hP hD hS (lv_sub hl [0, 1, 2, 3] rfl)
      · refine lv_istore_n (lv' := [(3, .int 0), (2, .int 0), (0, .ref (ad 0)), (1, .int (nI i))]) hx hb dX0_firstPlan_30 rfl hl (by decide) rfl (fun ls hl => ?_)
        exact lp 255 0 0 R1 rfl (fun j h => absurd h (Nat.not_lt_zero _)) (Or.inr ⟨rfl, fun h => hgd ((sol_gd hsol1 hi _).mpr h)⟩) _ _ ls hP hD hS (lv_sub hl [0, 1, 2, 3] rfl)
    · refine lv_bipush (v := (-3)) hx hb dX0_firstPlan_9 (by decide) ?_
      exact hret _ _ _ _ _ (one, dep, C, F, S, L, T, G, V, R) dX0_firstPlan_11 ⟨Or.inl ⟨(Or.inr (i32_nle c6)), rfl⟩, hg⟩ hP hD hS
set_option maxHeartbeats 4000000 in
set_option maxRecDepth 100000 in
theorem m0_canForce (l : Launch) (D : va_G) (ad : Nat → Nat) (d : ClassId) (one dep : Int32) (C F S L T G V R : Nat → Int32) (own col f1 f2 : Nat → Nat) (hg : gv own col f1 f2 one C F S) (x y : Int32) : CI l yX0_canForce cX0_canForce 4 (some .boolean) 2 51 D d [.ref (ad 0), .int x, .int y] (wG ad d one dep C F S L T G V R) (fun r (u : GSt) => ((r = 1 ∧ ∃ a b, a < 8 ∧ b < 8 ∧ x = nI a ∧ y = nI b ∧ bt (fro one F S (nI 0) 255 9 ((1 : Int32) <<< (nI b &&& 31)) 0) a = true) ∨ (r = 0 ∧ ¬ ∃ a b, a < 8 ∧ b < 8 ∧ x = nI a ∧ y = nI b ∧ bt (fro one F S (nI 0) 255 9 ((1 : Int32) <<< (nI b &&& 31)) 0) a = true)) ∧ u = (one, dep, C, F, S, L, T, G, V, R)) (fun (u : GSt) => wGu ad d u) := by
  refine CZ_of (by decide) (Nat.le_of_ble_eq_true rfl) (fun p e s m below meth c A Q ls E hret => ?_)
  obtain ⟨hx, hb, hml, hown, hts, hA, hK, hP, hD, hS, hl⟩ := E
  have hown : s.vm.findClass RX0 = some m.cls := hown
  have hl : lv_has ls 4 [(0, .ref (ad 0)), (1, .int x), (2, .int y)] := hl
  refine lv_iload_n hx hb dX0_canForce_0 rfl (lv_at hl 1 rfl) ?_
  refine x_si [.int x] [] 1 (m0_bad l D d (wG ad d one dep C F S L T G V R) x) hx hb hml hown hts hA hK hP hD hS (lw_S q67 q68 q21 q69) (by decide +kernel) rfl ⟨Nat.le_of_ble_eq_true rfl, Nat.le_of_ble_eq_true rfl⟩ rfl hl.1 (Nat.le_of_ble_eq_true rfl) ⟨Nat.zero_le _, Nat.zero_le _⟩ dX0_canForce_1 (fun r u H locs hw hP hD hS => ?_)
  rcases hw with ⟨rfl, hbx⟩ | ⟨rfl, a, ha, rfl⟩
  · refine lv_if_ne (tgt := 14) hx hb dX0_canForce_4 (by decide) (fun _ => ?_) (fun cc9 => absurd cc9 (by decide))
    refine lv_iconst (v := 0) hx hb dX0_canForce_14 (by decide) ?_
    exact hret _ _ _ _ _ (one, dep, C, F, S, L, T, G, V, R) dX0_canForce_15 (Or.inl rfl) ⟨Or.inr ⟨rfl, fun ⟨a, b, h1, _, h3, _⟩ => absurd hbx (by rw [h3]; exact a_bad_not h1)⟩, rfl⟩ hP hD hS
  · refine lv_if_ne (tgt := 14) hx hb dX0_canForce_4 (by decide) (fun cc9 => absurd (by decide) cc9) (fun _ => ?_)
    refine lv_iload_n hx hb dX0_canForce_7 rfl (lv_at hl 2 rfl) ?_
    refine x_si [.int y] [] 1 (m0_bad l D d (wG ad d one dep C F S L T G V R) y) hx hb hml hown hts hA hK hP hD hS (lw_S q67 q68 q21 q69) (by decide +kernel) rfl ⟨Nat.le_of_ble_eq_true rfl, Nat.le_of_ble_eq_true rfl⟩ rfl hl.1 (Nat.le_of_ble_eq_true rfl) ⟨Nat.zero_le _, Nat.zero_le _⟩ dX0_canForce_8 (fun r u H locs hw hP hD hS => ?_)
    rcases hw with ⟨rfl, hby⟩ | ⟨rfl, b, hb9, rfl⟩
    · refine lv_if_eq (tgt := 16) hx hb dX0_canForce_11 (by decide) (fun cc9 => absurd cc9 (by decide)) (fun _ => ?_)
      refine lv_iconst (v := 0) hx hb dX0_canForce_14 (by decide) ?_
      exact hret _ _ _ _ _ (one, dep, C, F, S, L, T, G, V, R) dX0_canForce_15 (Or.inl rfl) ⟨Or.inr ⟨rfl, fun ⟨a, b, _, h2, _, h4, _⟩ => absurd hby (by rw [h4]; exact a_bad_not h2)⟩, rfl⟩ hP hD hS
    · refine lv_if_eq (tgt := 16) hx hb dX0_canForce_11 (by decide) (fun _ => ?_) (fun cc9 => absurd (by decide) cc9)
      refine lv_aload_n hx hb dX0_canForce_16 rfl (lv_at hl 0 rfl) ?_
      refine lv_iconst (v := nI 0) hx hb dX0_canForce_17 (by decide) ?_
      refine lv_iconst (v := 1) hx hb dX0_canForce_18 (by decide) ?_
      refine lv_iload_n hx hb dX0_canForce_19 rfl (lv_at hl 2 rfl) ?_
      refine lv_ishl hx hb dX0_canForce_20 ?_
      refine lv_sipush (v := nI 255) hx hb dX0_canForce_21 (by decide) ?_
      refine x_vi [.int (nI 0), .int ((1 : Int32) <<< ((nI b) &&& 31)), .int (nI 255)] [] 3 (m0_forced l D ad d one dep C F S L T G V R (nI 0) ((1 : Int32) <<< (nI b &&& 31)) 255) hx hb hml hown hts hA hK hP hD hS (lw_V q110 q112 qs6 q21 q113) (by decide +kernel) rfl ⟨Nat.le_of_ble_eq_true rfl, Nat.le_of_ble_eq_true rfl⟩ rfl rfl rfl rfl hl.1 (Nat.le_of_ble_eq_true rfl) ⟨Nat.zero_le _, Nat.zero_le _⟩ dX0_canForce_24 (fun r u H locs hw hP hD hS => ?_)
      have hw : r = fro one F S (nI 0) 255 9 ((1 : Int32) <<< (nI b &&& 31)) 0 := hw
      subst hw
      refine lv_istore_n (lv' := [(3, .int (fro one F S (nI 0) 255 9 ((1 : Int32) <<< (nI b &&& 31)) 0)), (0, .ref (ad 0)), (1, .int (nI a)), (2, .int (nI b))]) hx hb dX0_canForce_27 rfl hl (by decide) rfl (fun ls hl => ?_)
      refine lv_iload_n hx hb dX0_canForce_28 rfl (lv_at hl 0 rfl) ?_
      refine lv_iload_n hx hb dX0_canForce_29 rfl (lv_at hl 2 rfl) ?_
      refine lv_ishr hx hb dX0_canForce_30 ?_
      refine lv_iconst (v := 1) hx hb dX0_canForce_31 (by decide) ?_
      refine lv_iand hx hb dX0_canForce_32 ?_
      refine lv_iconst (v := 1) hx hb dX0_canForce_33 (by decide) ?_
      refine lv_icmp_ne (tgt := 41) hx hb dX0_canForce_34 (by decide) (fun c34 => ?_) (fun c34 => ?_)
      · refine lv_iconst (v := 0) hx hb dX0_canForce_41 (by decide) ?_
        exact hret _ _ _ _ _ (one, dep, C, F, S, L, T, G, V, R) dX0_canForce_42 (Or.inl rfl) ⟨Or.inr ⟨rfl, fun ⟨a2, b2, h1, h2, h3, h4, h5⟩ => c34 ((xb_t _ (by omega)).mpr (by rw [(nI_eq (by omega) (by omega)).mp h3, (nI_eq (by omega) (by omega)).mp h4]; exact h5))⟩, rfl⟩ hP hD hS
      · refine lv_iconst (v := 1) hx hb dX0_canForce_37 (by decide) ?_
        refine lv_goto (tgt := 42) hx hb dX0_canForce_38 (by decide) ?_
        exact hret _ _ _ _ _ (one, dep, C, F, S, L, T, G, V, R) dX0_canForce_42 (Or.inr rfl) ⟨Or.inl ⟨rfl, a, b, ha, hb9, rfl, rfl, (xb_t _ (by omega)).mp c34⟩, rfl⟩ hP hD hS
set_option maxHeartbeats 4000000 in
set_option maxRecDepth 100000 in
theorem m0_contested (l : Launch) (D : va_G) (ad : Nat → Nat) (d : ClassId) (one dep : Int32) (C F S L T G V R : Nat → Int32) (own col f1 f2 : Nat → Nat) (hg : gv own col f1 f2 one C F S) : CI l yX0_contested cX0_contested 4 (some .int) 4 98 D d [.ref (ad 0)] (wG ad d one dep C F S L T G V R) (fun r (u : GSt) => r = nI (cns own col f1 f2 8) ∧ gvu own col f1 f2 u) (fun (u : GSt) => wGu ad d u) := by
  refine CI_of (by decide) (Nat.le_of_ble_eq_true rfl) (fun p e s m below meth c A Q ls E hret => ?_)
  obtain ⟨hx, hb, hml, hown, hts, hA, hK, hP, hD, hS, hl⟩ := E
  have hown : s.vm.findClass RX0 = some m.cls := hown
  have hl : lv_has ls 4 [(0, .ref (ad 0))] := hl
  refine lv_aload_n hx hb dX0_contested_0 rfl (lv_at hl 0 rfl) ?_
  refine x_vv [] [] 0 (m0_solve l D ad d one dep C F S L T G V R own col f1 f2 hg) hx hb hml hown hts hA hK hP hD hS (lw_V q90 q92 qs1 q21 q93) (by decide +kernel) rfl ⟨Nat.le_of_ble_eq_true rfl, Nat.le_of_ble_eq_true rfl⟩ rfl rfl rfl rfl hl.1 (Nat.le_of_ble_eq_true rfl) ⟨Nat.zero_le _, Nat.zero_le _⟩ dX0_contested_1 (fun u H locs hw hP hD hS => ?_)
  obtain ⟨L1, T1, G1, V1⟩ := u
  have hsol1 : sol own col f1 f2 V1 := hw
  have hP : va_P D vwCl (wG ad d one (nI 0) C F S L1 T1 G1 V1 R) H := hP
  have hD : va_D A (wG ad d one (nI 0) C F S L1 T1 G1 V1 R) := hD
  refine lv_aload_n hx hb dX0_contested_4 rfl (lv_at hl 0 rfl) ?_
  refine x_g0 8 28 hx hb hown hts hK hP (by decide) q39 rfl rfl dX0_contested_5 ?_
  refine lv_iconst (v := 0) hx hb dX0_contested_8 (by decide) ?_
  refine x_ald 0 rfl 7 (by decide) (by decide) hx hb hK hP rfl dX0_contested_9 ?_
  have hr0 := sol_rgn hsol1
  generalize V1 0 = x0 at hr0 ⊢
  refine lv_istore_n (lv' := [(1, .int x0), (0, .ref (ad 0))]) hx hb dX0_contested_10 rfl hl (by decide) rfl (fun ls hl => ?_)
  refine lv_iconst (v := 0) hx hb dX0_contested_11 (by decide) ?_
  refine lv_istore_n (lv' := [(2, .int 0), (1, .int x0), (0, .ref (ad 0))]) hx hb dX0_contested_12 rfl hl (by decide) rfl (fun ls hl => ?_)
  refine lv_iconst (v := 0) hx hb dX0_contested_13 (by decide) ?_
  refine lv_istore_n (lv' := [(3, .int 0), (2, .int 0), (1, .int x0), (0, .ref (ad 0))]) hx hb dX0_contested_14 rfl hl (by decide) rfl (fun ls hl => ?_)
  have lp : ∀ (n k : Nat) (dep : Int32) (L T G V R : Nat → Int32), k + n = 8 → ∀ (H : Heap) (locs : List Loc) (ls : Array Slot), va_P D vwCl (wG ad d one dep C F S L T G V R) H → va_D A (wG ad d one dep C F S L T G V R) → va_S A s.heap H locs → lv_has ls 4 [(3, .int (nI k)), (2, .int (nI (cns own col f1 f2 k))), (1, .int x0), (0, .ref (ad 0))] → W p l e { frames := 4, cells := 0, slots := 0, locals := 98 } s m ([.ref (ad 0)] : List Value).toArray below meth c H locs 0 0 Q (F0 m 15 ls []) := by
    intro n
    induction n with
    | zero =>
      intro k dep L T G V R hk H locs ls hP hD hS hl
      obtain rfl : k = 8 := by omega
      refine lv_iload_n hx hb dX0_contested_15 rfl (lv_at hl 0 rfl) ?_
      refine lv_bipush (v := nI 8) hx hb dX0_contested_16 (by decide) ?_
      refine lv_icmp_ge (tgt := 68) hx hb dX0_contested_18 (by decide) (fun _ => ?_) (fun cc9 => absurd (nI_le (Nat.le_refl 8) (by decide)) cc9)
      refine lv_iload_n hx hb dX0_contested_68 rfl (lv_at hl 1 rfl) ?_
      exact hret _ _ _ _ _ (one, dep, C, F, S, L, T, G, V, R) dX0_contested_69 ⟨rfl, hg⟩ hP hD hS
    | succ n ih =>
      intro k dep L T G V R hk H locs ls hP hD hS hl
      refine lv_iload_n hx hb dX0_contested_15 rfl (lv_at hl 0 rfl) ?_
      refine lv_bipush (v := nI 8) hx hb dX0_contested_16 (by decide) ?_
      refine lv_icmp_ge (tgt := 68) hx hb dX0_contested_18 (by decide) (fun cc9 => absurd cc9 (nI_ge (by omega) (by decide))) (fun _ => ?_)
      refine lv_aload_n hx hb dX0_contested_21 rfl (lv_at hl 3 rfl) ?_
      refine lv_dup hx hb dX0_contested_22 rfl ?_
      refine x_g0 0 34 hx hb hown hts hK hP (by decide) q31 rfl rfl dX0_contested_23 ?_
      refine lv_iconst (v := 1) hx hb dX0_contested_26 (by decide) ?_
      refine lv_iload_n hx hb dX0_contested_27 rfl (lv_at hl 0 rfl) ?_
      refine lv_ishl hx hb dX0_contested_28 ?_
      refine lv_ixor hx hb dX0_contested_29 ?_
      refine x_p0 0 34 hx hb hown hts hK hP hD hS (by decide) q31 rfl rfl (by decide +kernel) (Nat.le_of_ble_eq_true rfl) dX0_contested_30 (fun H locs hP hD hS => ?_)
      have hP : va_P D vwCl (wG ad d (one ^^^ ((1 : Int32) <<< ((nI k) &&& 31))) dep C F S L T G V R) H := hP
      have hD : va_D A (wG ad d (one ^^^ ((1 : Int32) <<< ((nI k) &&& 31))) dep C F S L T G V R) := hD
      refine lv_aload_n hx hb dX0_contested_33 rfl (lv_at hl 3 rfl) ?_
      refine x_vv [] [] 0 (m0_solve l D ad d (one ^^^ ((1 : Int32) <<< ((nI k) &&& 31))) dep C F S L T G V R (flip1 own k) col f1 f2 (gv_flip hg (by omega))) hx hb hml hown hts hA hK hP hD hS (lw_V q90 q92 qs1 q21 q93) (by decide +kernel) rfl ⟨Nat.le_of_ble_eq_true rfl, Nat.le_of_ble_eq_true rfl⟩ rfl rfl rfl rfl hl.1 (Nat.le_of_ble_eq_true rfl) ⟨Nat.zero_le _, Nat.zero_le _⟩ dX0_contested_34 (fun u H locs hw hP hD hS => ?_)
      obtain ⟨L2, T2, G2, V2⟩ := u
      have hsol2 : sol (flip1 own k) col f1 f2 V2 := hw
      have hP : va_P D vwCl (wG ad d (one ^^^ ((1 : Int32) <<< ((nI k) &&& 31))) (nI 0) C F S L2 T2 G2 V2 R) H := hP
      have hD : va_D A (wG ad d (one ^^^ ((1 : Int32) <<< ((nI k) &&& 31))) (nI 0) C F S L2 T2 G2 V2 R) := hD
      refine lv_aload_n hx hb dX0_contested_37 rfl (lv_at hl 3 rfl) ?_
      refine x_g0 8 28 hx hb hown hts hK hP (by decide) q39 rfl rfl dX0_contested_38 ?_
      refine lv_iconst (v := 0) hx hb dX0_contested_41 (by decide) ?_
      refine x_ald 0 rfl 7 (by decide) (by decide) hx hb hK hP rfl dX0_contested_42 ?_
      refine lv_iload_n hx hb dX0_contested_43 rfl (lv_at hl 2 rfl) ?_
      refine lv_icmp_eq (tgt := 50) hx hb dX0_contested_44 (by decide) (fun c44 => ?_) (fun c44 => ?_)
      · refine lv_aload_n hx hb dX0_contested_50 rfl (lv_at hl 3 rfl) ?_
        refine lv_dup hx hb dX0_contested_51 rfl ?_
        refine x_g0 0 34 hx hb hown hts hK hP (by decide) q31 rfl rfl dX0_contested_52 ?_
        refine lv_iconst (v := 1) hx hb dX0_contested_55 (by decide) ?_
        refine lv_iload_n hx hb dX0_contested_56 rfl (lv_at hl 0 rfl) ?_
        refine lv_ishl hx hb dX0_contested_57 ?_
        refine lv_ixor hx hb dX0_contested_58 ?_
        refine x_p0 0 34 hx hb hown hts hK hP hD hS (by decide) q31 rfl rfl (by decide +kernel) (Nat.le_of_ble_eq_true rfl) dX0_contested_59 (fun H locs hP hD hS => ?_)
        have hP : va_P D vwCl (wG ad d ((one ^^^ ((1 : Int32) <<< ((nI k) &&& 31))) ^^^ ((1 : Int32) <<< ((nI k) &&& 31))) (nI 0) C F S L2 T2 G2 V2 R) H := hP
        have hD : va_D A (wG ad d ((one ^^^ ((1 : Int32) <<< ((nI k) &&& 31))) ^^^ ((1 : Int32) <<< ((nI k) &&& 31))) (nI 0) C F S L2 T2 G2 V2 R) := hD
        rw [xor_back] at hP hD
        refine lv_iinc (v := nI (k + 1)) (lv' := [(3, .int (nI (k + 1))), (2, .int (nI (cns own col f1 f2 k))), (1, .int x0), (0, .ref (ad 0))]) hx hb dX0_contested_62 hl (k := 0) rfl (nI_i1 _) (by decide) rfl (fun ls hl => ?_)
        refine lv_goto (tgt := 15) hx hb dX0_contested_65 (by decide) ?_
        have e9 : cns own col f1 f2 (k + 1) = cns own col f1 f2 k := cns_f (fun h => (chg_iff hr0 (sol_rgn hsol2)).mp h c44)
        exact ih (k + 1) _ _ _ _ _ _ (by omega) H locs ls hP hD hS (by rw [e9]; exact lv_sub hl [0, 1, 2, 3] rfl)
      · refine lv_iinc (v := nI ((cns own col f1 f2 k) + 1)) (lv' := [(2, .int (nI ((cns own col f1 f2 k) + 1))), (3, .int (nI k)), (1, .int x0), (0, .ref (ad 0))]) hx hb dX0_contested_47 hl (k := 1) rfl (nI_i1 _) (by decide) rfl (fun ls hl => ?_)
        refine lv_aload_n hx hb dX0_contested_50 rfl (lv_at hl 3 rfl) ?_
        refine lv_dup hx hb dX0_contested_51 rfl ?_
        refine x_g0 0 34 hx hb hown hts hK hP (by decide) q31 rfl rfl dX0_contested_52 ?_
        refine lv_iconst (v := 1) hx hb dX0_contested_55 (by decide) ?_
        refine lv_iload_n hx hb dX0_contested_56 rfl (lv_at hl 1 rfl) ?_
        refine lv_ishl hx hb dX0_contested_57 ?_
        refine lv_ixor hx hb dX0_contested_58 ?_
        refine x_p0 0 34 hx hb hown hts hK hP hD hS (by decide) q31 rfl rfl (by decide +kernel) (Nat.le_of_ble_eq_true rfl) dX0_contested_59 (fun H locs hP hD hS => ?_)
        have hP : va_P D vwCl (wG ad d ((one ^^^ ((1 : Int32) <<< ((nI k) &&& 31))) ^^^ ((1 : Int32) <<< ((nI k) &&& 31))) (nI 0) C F S L2 T2 G2 V2 R) H := hP
        have hD : va_D A (wG ad d ((one ^^^ ((1 : Int32) <<< ((nI k) &&& 31))) ^^^ ((1 : Int32) <<< ((nI k) &&& 31))) (nI 0) C F S L2 T2 G2 V2 R) := hD
        rw [xor_back] at hP hD
        refine lv_iinc (v := nI (k + 1)) (lv' := [(3, .int (nI (k + 1))), (2, .int (nI ((cns own col f1 f2 k) + 1))), (1, .int x0), (0, .ref (ad 0))]) hx hb dX0_contested_62 hl (k := 1) rfl (nI_i1 _) (by decide) rfl (fun ls hl => ?_)
        refine lv_goto (tgt := 15) hx hb dX0_contested_65 (by decide) ?_
        have e9 : cns own col f1 f2 (k + 1) = cns own col f1 f2 k + 1 := cns_t ((chg_iff hr0 (sol_rgn hsol2)).mpr c44)
        exact ih (k + 1) _ _ _ _ _ _ (by omega) H locs ls hP hD hS (by rw [e9]; exact lv_sub hl [0, 1, 2, 3] rfl)
  exact lp 8 0 _ _ _ _ _ _ rfl _ _ ls hP hD hS (lv_sub hl [0, 1, 2, 3] rfl)
set_option maxHeartbeats 4000000 in
set_option maxRecDepth 100000 in
theorem m0_set (l : Launch) (D : va_G) (ad : Nat → Nat) (d : ClassId) (one dep : Int32) (C F S L T G V R : Nat → Int32) (own col f1 f2 : Nat → Nat) (hg : gv own col f1 f2 one C F S) (x pl cl mv : Int32) : CI l yX0_set cX0_set 5 (some .int) 1 20 D d [.ref (ad 0), .int x, .int pl, .int cl, .int mv] (wG ad d one dep C F S L T G V R) (fun r (u : GSt) => r = a_set x pl cl ∧ gvu (s_own own x pl cl) (s_col col x pl cl) (s_f f1 x pl cl mv) (s_s f2 x pl cl mv) u) (fun (u : GSt) => wGu ad d u) := by
  refine CI_of (by decide) (Nat.le_of_ble_eq_true rfl) (fun p e s m below meth c A Q ls E hret => ?_)
  obtain ⟨hx, hb, hml, hown, hts, hA, hK, hP, hD, hS, hl⟩ := E
  have hown : s.vm.findClass RX0 = some m.cls := hown
  have hl : lv_has ls 5 [(0, .ref (ad 0)), (1, .int x), (2, .int pl), (3, .int cl), (4, .int mv)] := hl
  refine lv_iload_n hx hb dX0_set_0 rfl (lv_at hl 1 rfl) ?_
  refine x_si [.int x] [] 1 (m0_bad l D d (wG ad d one dep C F S L T G V R) x) hx hb hml hown hts hA hK hP hD hS (lw_S q67 q68 q21 q69) (by decide +kernel) rfl ⟨Nat.le_of_ble_eq_true rfl, Nat.le_of_ble_eq_true rfl⟩ rfl hl.1 (Nat.le_of_ble_eq_true rfl) ⟨Nat.zero_le _, Nat.zero_le _⟩ dX0_set_1 (fun r u H locs hw hP hD hS => ?_)
  rcases hw with ⟨rfl, hbx⟩ | ⟨rfl, j, hj, rfl⟩
  · refine lv_if_eq (tgt := 9) hx hb dX0_set_4 (by decide) (fun cc9 => absurd cc9 (by decide)) (fun _ => ?_)
    refine lv_iconst (v := (-1)) hx hb dX0_set_7 (by decide) ?_
    exact hret _ _ _ _ _ (one, dep, C, F, S, L, T, G, V, R) dX0_set_8 ⟨(cif_t hbx).symm, gv_set_no (fun h => h.1 hbx) hg⟩ hP hD hS
  · refine lv_if_eq (tgt := 9) hx hb dX0_set_4 (by decide) (fun _ => ?_) (fun cc9 => absurd (by decide) cc9)
    refine lv_iload_n hx hb dX0_set_9 rfl (lv_at hl 2 rfl) ?_
    refine lv_if_lt (tgt := 18) hx hb dX0_set_10 (by decide) (fun c10 => ?_) (fun c10 => ?_)
    · refine lv_bipush (v := (-3)) hx hb dX0_set_18 (by decide) ?_
      exact hret _ _ _ _ _ (one, dep, C, F, S, L, T, G, V, R) dX0_set_20 ⟨((cif_f (a_bad_not hj)).trans (cif_t (Or.inl c10))).symm, gv_set_no (fun h => h.2.1 (Or.inl c10)) hg⟩ hP hD hS
    · refine lv_iload_n hx hb dX0_set_13 rfl (lv_at hl 2 rfl) ?_
      refine lv_iconst (v := 1) hx hb dX0_set_14 (by decide) ?_
      refine lv_icmp_le (tgt := 21) hx hb dX0_set_15 (by decide) (fun c15 => ?_) (fun c15 => ?_)
      · obtain ⟨a, ha, rfl⟩ := pl_of c10 c15
        refine lv_iload_n hx hb dX0_set_21 rfl (lv_at hl 3 rfl) ?_
        refine lv_if_lt (tgt := 30) hx hb dX0_set_22 (by decide) (fun c22 => ?_) (fun c22 => ?_)
        · refine lv_bipush (v := (-2)) hx hb dX0_set_30 (by decide) ?_
          exact hret _ _ _ _ _ (one, dep, C, F, S, L, T, G, V, R) dX0_set_32 ⟨((cif_f (a_bad_not hj)).trans ((cif_f (a_npl_not ha)).trans (cif_t (Or.inl c22)))).symm, gv_set_no (fun h => h.2.2 (Or.inl c22)) hg⟩ hP hD hS
        · refine lv_iload_n hx hb dX0_set_25 rfl (lv_at hl 3 rfl) ?_
          refine lv_iconst (v := 5) hx hb dX0_set_26 (by decide) ?_
          refine lv_icmp_le (tgt := 33) hx hb dX0_set_27 (by decide) (fun c27 => ?_) (fun c27 => ?_)
          · obtain ⟨b, hb9, rfl⟩ := cl_of c22 c27
            refine lv_aload_n hx hb dX0_set_33 rfl (lv_at hl 0 rfl) ?_
            refine lv_aload_n hx hb dX0_set_34 rfl (lv_at hl 0 rfl) ?_
            refine x_g0 0 34 hx hb hown hts hK hP (by decide) q31 rfl rfl dX0_set_35 ?_
            refine lv_iconst (v := 1) hx hb dX0_set_38 (by decide) ?_
            refine lv_iload_n hx hb dX0_set_39 rfl (lv_at hl 1 rfl) ?_
            refine lv_ishl hx hb dX0_set_40 ?_
            refine lv_iconst (v := (-1)) hx hb dX0_set_41 (by decide) ?_
            refine lv_ixor hx hb dX0_set_42 ?_
            refine lv_iand hx hb dX0_set_43 ?_
            refine lv_iload_n hx hb dX0_set_44 rfl (lv_at hl 2 rfl) ?_
            refine lv_iload_n hx hb dX0_set_45 rfl (lv_at hl 1 rfl) ?_
            refine lv_ishl hx hb dX0_set_46 ?_
            refine lv_ior hx hb dX0_set_47 ?_
            refine x_p0 0 34 hx hb hown hts hK hP hD hS (by decide) q31 rfl rfl (by decide +kernel) (Nat.le_of_ble_eq_true rfl) dX0_set_48 (fun H locs hP hD hS => ?_)
            have hP : va_P D vwCl (wG ad d ((one &&& (((1 : Int32) <<< ((nI j) &&& 31)) ^^^ (-1))) ||| ((nI a) <<< ((nI j) &&& 31))) dep C F S L T G V R) H := hP
            have hD : va_D A (wG ad d ((one &&& (((1 : Int32) <<< ((nI j) &&& 31)) ^^^ (-1))) ||| ((nI a) <<< ((nI j) &&& 31))) dep C F S L T G V R) := hD
            refine lv_aload_n hx hb dX0_set_51 rfl (lv_at hl 0 rfl) ?_
            refine x_g0 1 7 hx hb hown hts hK hP (by decide) q32 rfl rfl dX0_set_52 ?_
            refine lv_iload_n hx hb dX0_set_55 rfl (lv_at hl 1 rfl) ?_
            refine lv_iload_n hx hb dX0_set_56 rfl (lv_at hl 3 rfl) ?_
            refine x_ast j rfl 1 hj (by decide) hx hb hK hP hD hS rfl dX0_set_57 (fun H locs hP hD hS => ?_)
            have hP : va_P D vwCl (wG ad d ((one &&& (((1 : Int32) <<< ((nI j) &&& 31)) ^^^ (-1))) ||| ((nI a) <<< ((nI j) &&& 31))) dep (upd C j (nI b)) F S L T G V R) H := hP
            have hD : va_D A (wG ad d ((one &&& (((1 : Int32) <<< ((nI j) &&& 31)) ^^^ (-1))) ||| ((nI a) <<< ((nI j) &&& 31))) dep (upd C j (nI b)) F S L T G V R) := hD
            refine lv_aload_n hx hb dX0_set_58 rfl (lv_at hl 0 rfl) ?_
            refine x_g0 2 13 hx hb hown hts hK hP (by decide) q33 rfl rfl dX0_set_59 ?_
            refine lv_iload_n hx hb dX0_set_62 rfl (lv_at hl 1 rfl) ?_
            refine lv_iload hx hb dX0_set_63 (lv_at hl 4 rfl) ?_
            refine lv_bipush (v := nI 7) hx hb dX0_set_65 (by decide) ?_
            refine lv_iand hx hb dX0_set_67 ?_
            refine x_ast j rfl 2 hj (by decide) hx hb hK hP hD hS rfl dX0_set_68 (fun H locs hP hD hS => ?_)
            have hP : va_P D vwCl (wG ad d ((one &&& (((1 : Int32) <<< ((nI j) &&& 31)) ^^^ (-1))) ||| ((nI a) <<< ((nI j) &&& 31))) dep (upd C j (nI b)) (upd F j (mv &&& (nI 7))) S L T G V R) H := hP
            have hD : va_D A (wG ad d ((one &&& (((1 : Int32) <<< ((nI j) &&& 31)) ^^^ (-1))) ||| ((nI a) <<< ((nI j) &&& 31))) dep (upd C j (nI b)) (upd F j (mv &&& (nI 7))) S L T G V R) := hD
            refine lv_aload_n hx hb dX0_set_69 rfl (lv_at hl 0 rfl) ?_
            refine x_g0 3 16 hx hb hown hts hK hP (by decide) q34 rfl rfl dX0_set_70 ?_
            refine lv_iload_n hx hb dX0_set_73 rfl (lv_at hl 1 rfl) ?_
            refine lv_iload hx hb dX0_set_74 (lv_at hl 4 rfl) ?_
            refine lv_iconst (v := 3) hx hb dX0_set_76 (by decide) ?_
            refine lv_ishr hx hb dX0_set_77 ?_
            refine lv_bipush (v := nI 7) hx hb dX0_set_78 (by decide) ?_
            refine lv_iand hx hb dX0_set_80 ?_
            refine x_ast j rfl 3 hj (by decide) hx hb hK hP hD hS rfl dX0_set_81 (fun H locs hP hD hS => ?_)
            have hP : va_P D vwCl (wG ad d ((one &&& (((1 : Int32) <<< ((nI j) &&& 31)) ^^^ (-1))) ||| ((nI a) <<< ((nI j) &&& 31))) dep (upd C j (nI b)) (upd F j (mv &&& (nI 7))) (upd S j ((mv >>> (3 &&& 31)) &&& (nI 7))) L T G V R) H := hP
            have hD : va_D A (wG ad d ((one &&& (((1 : Int32) <<< ((nI j) &&& 31)) ^^^ (-1))) ||| ((nI a) <<< ((nI j) &&& 31))) dep (upd C j (nI b)) (upd F j (mv &&& (nI 7))) (upd S j ((mv >>> (3 &&& 31)) &&& (nI 7))) L T G V R) := hD
            refine lv_iconst (v := 0) hx hb dX0_set_82 (by decide) ?_
            exact hret _ _ _ _ _ ((one &&& (((1 : Int32) <<< ((nI j) &&& 31)) ^^^ (-1))) ||| ((nI a) <<< ((nI j) &&& 31)), dep, upd C j (nI b), upd F j (mv &&& (nI 7)), upd S j ((mv >>> (3 &&& 31)) &&& (nI 7)), L, T, G, V, R) dX0_set_83 ⟨((cif_f (a_bad_not hj)).trans ((cif_f (a_npl_not ha)).trans (cif_f (a_ncl_not hb9)))).symm, gv_set hg mv hj ha hb9⟩ hP hD hS
          · refine lv_bipush (v := (-2)) hx hb dX0_set_30 (by decide) ?_
            exact hret _ _ _ _ _ (one, dep, C, F, S, L, T, G, V, R) dX0_set_32 ⟨((cif_f (a_bad_not hj)).trans ((cif_f (a_npl_not ha)).trans (cif_t (Or.inr (i32_nle c27))))).symm, gv_set_no (fun h => h.2.2 (Or.inr (i32_nle c27))) hg⟩ hP hD hS
      · refine lv_bipush (v := (-3)) hx hb dX0_set_18 (by decide) ?_
        exact hret _ _ _ _ _ (one, dep, C, F, S, L, T, G, V, R) dX0_set_20 ⟨((cif_f (a_bad_not hj)).trans (cif_t (Or.inr (i32_nle c15)))).symm, gv_set_no (fun h => h.2.1 (Or.inr (i32_nle c15))) hg⟩ hP hD hS
set_option maxHeartbeats 4000000 in
set_option maxRecDepth 100000 in
theorem m0_paint (l : Launch) (D : va_G) (ad : Nat → Nat) (d : ClassId) (one dep : Int32) (C F S L T G V R : Nat → Int32) (own col f1 f2 : Nat → Nat) (hg : gv own col f1 f2 one C F S) (x cl : Int32) : CI l yX0_paint cX0_paint 4 (some .int) 1 20 D d [.ref (ad 0), .int x, .int cl] (wG ad d one dep C F S L T G V R) (fun r (u : GSt) => r = a_paint col x cl ∧ gvu own (p_col col x cl) f1 f2 u) (fun (u : GSt) => wGu ad d u) := by
  refine CI_of (by decide) (Nat.le_of_ble_eq_true rfl) (fun p e s m below meth c A Q ls E hret => ?_)
  obtain ⟨hx, hb, hml, hown, hts, hA, hK, hP, hD, hS, hl⟩ := E
  have hown : s.vm.findClass RX0 = some m.cls := hown
  have hl : lv_has ls 4 [(0, .ref (ad 0)), (1, .int x), (2, .int cl)] := hl
  refine lv_iload_n hx hb dX0_paint_0 rfl (lv_at hl 1 rfl) ?_
  refine x_si [.int x] [] 1 (m0_bad l D d (wG ad d one dep C F S L T G V R) x) hx hb hml hown hts hA hK hP hD hS (lw_S q67 q68 q21 q69) (by decide +kernel) rfl ⟨Nat.le_of_ble_eq_true rfl, Nat.le_of_ble_eq_true rfl⟩ rfl hl.1 (Nat.le_of_ble_eq_true rfl) ⟨Nat.zero_le _, Nat.zero_le _⟩ dX0_paint_1 (fun r u H locs hw hP hD hS => ?_)
  rcases hw with ⟨rfl, hbx⟩ | ⟨rfl, j, hj, rfl⟩
  · refine lv_if_eq (tgt := 9) hx hb dX0_paint_4 (by decide) (fun cc9 => absurd cc9 (by decide)) (fun _ => ?_)
    refine lv_iconst (v := (-1)) hx hb dX0_paint_7 (by decide) ?_
    exact hret _ _ _ _ _ (one, dep, C, F, S, L, T, G, V, R) dX0_paint_8 ⟨(cif_t hbx).symm, by rw [p_col_no (fun h => h.1 hbx)]; exact hg⟩ hP hD hS
  · refine lv_if_eq (tgt := 9) hx hb dX0_paint_4 (by decide) (fun _ => ?_) (fun cc9 => absurd (by decide) cc9)
    refine lv_iload_n hx hb dX0_paint_9 rfl (lv_at hl 2 rfl) ?_
    refine lv_if_lt (tgt := 18) hx hb dX0_paint_10 (by decide) (fun c10 => ?_) (fun c10 => ?_)
    · refine lv_bipush (v := (-2)) hx hb dX0_paint_18 (by decide) ?_
      exact hret _ _ _ _ _ (one, dep, C, F, S, L, T, G, V, R) dX0_paint_20 ⟨((cif_f (a_bad_not hj)).trans (cif_t (Or.inl c10))).symm, by rw [p_col_no (fun h => h.2 (Or.inl c10))]; exact hg⟩ hP hD hS
    · refine lv_iload_n hx hb dX0_paint_13 rfl (lv_at hl 2 rfl) ?_
      refine lv_iconst (v := 5) hx hb dX0_paint_14 (by decide) ?_
      refine lv_icmp_le (tgt := 21) hx hb dX0_paint_15 (by decide) (fun c15 => ?_) (fun c15 => ?_)
      · obtain ⟨b, hb9, rfl⟩ := cl_of c10 c15
        refine lv_aload_n hx hb dX0_paint_21 rfl (lv_at hl 0 rfl) ?_
        refine x_g0 1 7 hx hb hown hts hK hP (by decide) q32 rfl rfl dX0_paint_22 ?_
        refine lv_iload_n hx hb dX0_paint_25 rfl (lv_at hl 1 rfl) ?_
        refine x_ald j rfl 1 hj (by decide) hx hb hK hP rfl dX0_paint_26 ?_
        refine lv_istore_n (lv' := [(3, .int (C j)), (0, .ref (ad 0)), (1, .int (nI j)), (2, .int (nI b))]) hx hb dX0_paint_27 rfl hl (by decide) rfl (fun ls hl => ?_)
        refine lv_aload_n hx hb dX0_paint_28 rfl (lv_at hl 1 rfl) ?_
        refine x_g0 1 7 hx hb hown hts hK hP (by decide) q32 rfl rfl dX0_paint_29 ?_
        refine lv_iload_n hx hb dX0_paint_32 rfl (lv_at hl 2 rfl) ?_
        refine lv_iload_n hx hb dX0_paint_33 rfl (lv_at hl 3 rfl) ?_
        refine x_ast j rfl 1 hj (by decide) hx hb hK hP hD hS rfl dX0_paint_34 (fun H locs hP hD hS => ?_)
        have hP : va_P D vwCl (wG ad d one dep (upd C j (nI b)) F S L T G V R) H := hP
        have hD : va_D A (wG ad d one dep (upd C j (nI b)) F S L T G V R) := hD
        refine lv_iload_n hx hb dX0_paint_35 rfl (lv_at hl 0 rfl) ?_
        exact hret _ _ _ _ _ (one, dep, upd C j (nI b), F, S, L, T, G, V, R) dX0_paint_36 ⟨(hg.2 j hj).2.1.trans (paint_ans hj hb9).symm, gv_paint hg hj hb9⟩ hP hD hS
      · refine lv_bipush (v := (-2)) hx hb dX0_paint_18 (by decide) ?_
        exact hret _ _ _ _ _ (one, dep, C, F, S, L, T, G, V, R) dX0_paint_20 ⟨((cif_f (a_bad_not hj)).trans (cif_t (Or.inr (i32_nle c15)))).symm, by rw [p_col_no (fun h => h.2 (Or.inr (i32_nle c15)))]; exact hg⟩ hP hD hS
set_option maxHeartbeats 4000000 in
set_option maxRecDepth 100000 in
theorem m0_hand (l : Launch) (D : va_G) (ad : Nat → Nat) (d : ClassId) (one dep : Int32) (C F S L T G V R : Nat → Int32) (own col f1 f2 : Nat → Nat) (hg : gv own col f1 f2 one C F S) (x : Int32) : CI l yX0_hand cX0_hand 2 (some .int) 1 21 D d [.ref (ad 0), .int x] (wG ad d one dep C F S L T G V R) (fun r (u : GSt) => r = a_hand own x ∧ gvu (h_own own x) col f1 f2 u) (fun (u : GSt) => wGu ad d u) := by
  refine CI_of (by decide) (Nat.le_of_ble_eq_true rfl) (fun p e s m below meth c A Q ls E hret => ?_)
  obtain ⟨hx, hb, hml, hown, hts, hA, hK, hP, hD, hS, hl⟩ := E
  have hown : s.vm.findClass RX0 = some m.cls := hown
  have hl : lv_has ls 2 [(0, .ref (ad 0)), (1, .int x)] := hl
  refine lv_iload_n hx hb dX0_hand_0 rfl (lv_at hl 1 rfl) ?_
  refine x_si [.int x] [] 1 (m0_bad l D d (wG ad d one dep C F S L T G V R) x) hx hb hml hown hts hA hK hP hD hS (lw_S q67 q68 q21 q69) (by decide +kernel) rfl ⟨Nat.le_of_ble_eq_true rfl, Nat.le_of_ble_eq_true rfl⟩ rfl hl.1 (Nat.le_of_ble_eq_true rfl) ⟨Nat.zero_le _, Nat.zero_le _⟩ dX0_hand_1 (fun r u H locs hw hP hD hS => ?_)
  rcases hw with ⟨rfl, hbx⟩ | ⟨rfl, j, hj, rfl⟩
  · refine lv_if_eq (tgt := 9) hx hb dX0_hand_4 (by decide) (fun cc9 => absurd cc9 (by decide)) (fun _ => ?_)
    refine lv_iconst (v := (-1)) hx hb dX0_hand_7 (by decide) ?_
    exact hret _ _ _ _ _ (one, dep, C, F, S, L, T, G, V, R) dX0_hand_8 ⟨(cif_t hbx).symm, by rw [h_own_no hbx]; exact hg⟩ hP hD hS
  · refine lv_if_eq (tgt := 9) hx hb dX0_hand_4 (by decide) (fun _ => ?_) (fun cc9 => absurd (by decide) cc9)
    refine lv_aload_n hx hb dX0_hand_9 rfl (lv_at hl 0 rfl) ?_
    refine lv_dup hx hb dX0_hand_10 rfl ?_
    refine x_g0 0 34 hx hb hown hts hK hP (by decide) q31 rfl rfl dX0_hand_11 ?_
    refine lv_iconst (v := 1) hx hb dX0_hand_14 (by decide) ?_
    refine lv_iload_n hx hb dX0_hand_15 rfl (lv_at hl 1 rfl) ?_
    refine lv_ishl hx hb dX0_hand_16 ?_
    refine lv_ixor hx hb dX0_hand_17 ?_
    refine x_p0 0 34 hx hb hown hts hK hP hD hS (by decide) q31 rfl rfl (by decide +kernel) (Nat.le_of_ble_eq_true rfl) dX0_hand_18 (fun H locs hP hD hS => ?_)
    have hP : va_P D vwCl (wG ad d (one ^^^ ((1 : Int32) <<< ((nI j) &&& 31))) dep C F S L T G V R) H := hP
    have hD : va_D A (wG ad d (one ^^^ ((1 : Int32) <<< ((nI j) &&& 31))) dep C F S L T G V R) := hD
    refine lv_aload_n hx hb dX0_hand_21 rfl (lv_at hl 0 rfl) ?_
    refine lv_iload_n hx hb dX0_hand_22 rfl (lv_at hl 1 rfl) ?_
    refine x_vi [.int (nI j)] [] 1 (m0_owner l D ad d (one ^^^ ((1 : Int32) <<< ((nI j) &&& 31))) dep C F S L T G V R j) hx hb hml hown hts hA hK hP hD hS (lw_V q78 q80 qs0 q21 q81) (by decide +kernel) rfl ⟨Nat.le_of_ble_eq_true rfl, Nat.le_of_ble_eq_true rfl⟩ rfl rfl rfl rfl hl.1 (Nat.le_of_ble_eq_true rfl) ⟨Nat.zero_le _, Nat.zero_le _⟩ dX0_hand_23 (fun r u H locs hw hP hD hS => ?_)
    subst hw
    exact hret _ _ _ _ _ (one ^^^ ((1 : Int32) <<< ((nI j) &&& 31)), dep, C, F, S, L, T, G, V, R) dX0_hand_26 ⟨hand_class hg hj, by rw [h_own_f hj]; exact gv_flip hg hj⟩ hP hD hS
set_option maxHeartbeats 4000000 in
set_option maxRecDepth 100000 in
theorem m0_mirror (l : Launch) (D : va_G) (ad : Nat → Nat) (d : ClassId) (one dep : Int32) (C F S L T G V R : Nat → Int32) (own col f1 f2 : Nat → Nat) (hg : gv own col f1 f2 one C F S) : CV l yX0_mirror cX0_mirror 2 0 0 D d [.ref (ad 0)] (wG ad d one dep C F S L T G V R) (fun (u : GSt) => gvu (m_own own) (m_col col) f1 f2 u) (fun (u : GSt) => wGu ad d u) := by
  refine CV_of (by decide) (Nat.le_of_ble_eq_true rfl) (fun p e s m below meth c A Q ls E hret => ?_)
  obtain ⟨hx, hb, hml, hown, hts, hA, hK, hP, hD, hS, hl⟩ := E
  have hown : s.vm.findClass RX0 = some m.cls := hown
  have hl : lv_has ls 2 [(0, .ref (ad 0))] := hl
  refine lv_aload_n hx hb dX0_mirror_0 rfl (lv_at hl 0 rfl) ?_
  refine lv_dup hx hb dX0_mirror_1 rfl ?_
  refine x_g0 0 34 hx hb hown hts hK hP (by decide) q31 rfl rfl dX0_mirror_2 ?_
  refine lv_sipush (v := nI 255) hx hb dX0_mirror_5 (by decide) ?_
  refine lv_ixor hx hb dX0_mirror_8 ?_
  refine x_p0 0 34 hx hb hown hts hK hP hD hS (by decide) q31 rfl rfl (by decide +kernel) (Nat.le_of_ble_eq_true rfl) dX0_mirror_9 (fun H locs hP hD hS => ?_)
  have hP : va_P D vwCl (wG ad d (one ^^^ (nI 255)) dep C F S L T G V R) H := hP
  have hD : va_D A (wG ad d (one ^^^ (nI 255)) dep C F S L T G V R) := hD
  refine lv_iconst (v := 0) hx hb dX0_mirror_12 (by decide) ?_
  refine lv_istore_n (lv' := [(1, .int 0), (0, .ref (ad 0))]) hx hb dX0_mirror_13 rfl hl (by decide) rfl (fun ls hl => ?_)
  have lp : ∀ (n k : Nat), k + n = 8 → ∀ (H : Heap) (locs : List Loc) (ls : Array Slot), va_P D vwCl (wG ad d (one ^^^ nI 255) dep (mrc C k) F S L T G V R) H → va_D A (wG ad d (one ^^^ nI 255) dep (mrc C k) F S L T G V R) → va_S A s.heap H locs → lv_has ls 2 [(1, .int (nI k)), (0, .ref (ad 0))] → W p l e { frames := 0, cells := 0, slots := 0, locals := 0 } s m ([.ref (ad 0)] : List Value).toArray below meth c H locs 0 0 Q (F0 m 14 ls []) := by
    intro n
    induction n with
    | zero =>
      intro k hk H locs ls hP hD hS hl
      obtain rfl : k = 8 := by omega
      refine lv_iload_n hx hb dX0_mirror_14 rfl (lv_at hl 0 rfl) ?_
      refine lv_bipush (v := nI 8) hx hb dX0_mirror_15 (by decide) ?_
      refine lv_icmp_ge (tgt := 54) hx hb dX0_mirror_17 (by decide) (fun _ => ?_) (fun cc9 => absurd (nI_le (Nat.le_refl 8) (by decide)) cc9)
      exact hret _ _ _ _ (one ^^^ nI 255, dep, mrc C 8, F, S, L, T, G, V, R) dX0_mirror_54 (gv_mir hg) hP hD hS
    | succ n ih =>
      intro k hk H locs ls hP hD hS hl
      refine lv_iload_n hx hb dX0_mirror_14 rfl (lv_at hl 0 rfl) ?_
      refine lv_bipush (v := nI 8) hx hb dX0_mirror_15 (by decide) ?_
      refine lv_icmp_ge (tgt := 54) hx hb dX0_mirror_17 (by decide) (fun cc9 => absurd cc9 (nI_ge (by omega) (by decide))) (fun _ => ?_)
      refine lv_aload_n hx hb dX0_mirror_20 rfl (lv_at hl 1 rfl) ?_
      refine x_g0 1 7 hx hb hown hts hK hP (by decide) q32 rfl rfl dX0_mirror_21 ?_
      refine lv_iload_n hx hb dX0_mirror_24 rfl (lv_at hl 0 rfl) ?_
      refine lv_aload_n hx hb dX0_mirror_25 rfl (lv_at hl 1 rfl) ?_
      refine x_g0 1 7 hx hb hown hts hK hP (by decide) q32 rfl rfl dX0_mirror_26 ?_
      refine lv_iload_n hx hb dX0_mirror_29 rfl (lv_at hl 0 rfl) ?_
      refine x_ald k rfl 1 (by omega) (by decide) hx hb hK hP rfl dX0_mirror_30 ?_
      refine lv_iconst (v := 5) hx hb dX0_mirror_31 (by decide) ?_
      refine lv_icmp_ne (tgt := 39) hx hb dX0_mirror_32 (by decide) (fun c32 => ?_) (fun c32 => ?_)
      · refine lv_aload_n hx hb dX0_mirror_39 rfl (lv_at hl 1 rfl) ?_
        refine x_g0 1 7 hx hb hown hts hK hP (by decide) q32 rfl rfl dX0_mirror_40 ?_
        refine lv_iload_n hx hb dX0_mirror_43 rfl (lv_at hl 0 rfl) ?_
        refine x_ald k rfl 1 (by omega) (by decide) hx hb hK hP rfl dX0_mirror_44 ?_
        refine lv_iconst (v := 1) hx hb dX0_mirror_45 (by decide) ?_
        refine lv_iadd hx hb dX0_mirror_46 ?_
        refine x_ast k rfl 1 (by omega) (by decide) hx hb hK hP hD hS rfl dX0_mirror_47 (fun H locs hP hD hS => ?_)
        have hP : va_P D vwCl (wG ad d (one ^^^ nI 255) dep (upd (mrc C k) k (((mrc C k) k) + 1)) F S L T G V R) H := hP
        have hD : va_D A (wG ad d (one ^^^ nI 255) dep (upd (mrc C k) k (((mrc C k) k) + 1)) F S L T G V R) := hD
        refine lv_iinc (v := nI (k + 1)) (lv' := [(1, .int (nI (k + 1))), (0, .ref (ad 0))]) hx hb dX0_mirror_48 hl (k := 0) rfl (nI_i1 _) (by decide) rfl (fun ls hl => ?_)
        refine lv_goto (tgt := 14) hx hb dX0_mirror_51 (by decide) ?_
        have e9 : mrc C (k + 1) = upd (mrc C k) k (((mrc C k) k) + 1) := congrArg (upd (mrc C k) k) (if_neg c32)
        exact ih (k + 1) (by omega) H locs ls (by rw [e9]; exact hP) (by rw [e9]; exact hD) hS (lv_sub hl [0, 1] rfl)
      · refine lv_iconst (v := 0) hx hb dX0_mirror_35 (by decide) ?_
        refine lv_goto (tgt := 47) hx hb dX0_mirror_36 (by decide) ?_
        refine x_ast k rfl 1 (by omega) (by decide) hx hb hK hP hD hS rfl dX0_mirror_47 (fun H locs hP hD hS => ?_)
        have hP : va_P D vwCl (wG ad d (one ^^^ nI 255) dep (upd (mrc C k) k 0) F S L T G V R) H := hP
        have hD : va_D A (wG ad d (one ^^^ nI 255) dep (upd (mrc C k) k 0) F S L T G V R) := hD
        refine lv_iinc (v := nI (k + 1)) (lv' := [(1, .int (nI (k + 1))), (0, .ref (ad 0))]) hx hb dX0_mirror_48 hl (k := 0) rfl (nI_i1 _) (by decide) rfl (fun ls hl => ?_)
        refine lv_goto (tgt := 14) hx hb dX0_mirror_51 (by decide) ?_
        have e9 : mrc C (k + 1) = upd (mrc C k) k 0 := congrArg (upd (mrc C k) k) (if_pos c32)
        exact ih (k + 1) (by omega) H locs ls (by rw [e9]; exact hP) (by rw [e9]; exact hD) hS (lv_sub hl [0, 1] rfl)
  exact lp 8 0 rfl _ _ ls hP hD hS (lv_sub hl [0, 1] rfl)
end
section
/-! the model's answers, plainly -/
/-- what the model remembers -/
def kc (own col f s : Nat → Nat) (kn wi : Int32) : Prop := kn = 0 ∨ (kn = 1 ∧ rgn own col f s wi)
theorem nI_p2 (k : Nat) : nI k + 2 = nI (k + 2) := nI_add k 2
theorem ix_of7 {x : Int32} (h : ¬ x < 0) (h2 : x ≤ nI 7) : ∃ j, j < 8 ∧ x = nI j := by
  obtain ⟨j, h3, h4⟩ := nI_of2 (M := nI 7) (n := 7) rfl h h2
  exact ⟨j, by omega, h4⟩
theorem bad_of7 {x : Int32} (h : ¬ x ≤ nI 7) : nI 8 ≤ x := by
  rw [Int32.le_iff_toInt_le, nI_toInt (by decide)] at h
  rw [Int32.le_iff_toInt_le, nI_toInt (by decide)]
  omega
theorem upd_self (f : Nat → Int32) (k : Nat) : upd f k (f k) = f := by
  funext j
  by_cases h : j = k
  · subst h; rw [pk_us]
  · rw [pk_un h]
section
variable {own col f s : Nat → Nat} {O C F S : Nat → Int32}
/-- every game is solved -/
theorem sol_ex (hok : pg_ok own col f s) : ∃ V, sol own col f s V := by
  obtain ⟨c, _, h2⟩ := mk_mask (fun q => decide (own q = 1))
  have hg : gv own col f s (nI c) (fun q => nI (col q)) (fun q => nI (f q)) (fun q => nI (s q)) := by
    refine ⟨hok, fun q hq => ⟨ow_bit hq (hok q hq).1 ?_, rfl, rfl, rfl⟩⟩
    rw [h2, decide_eq_true hq, Bool.true_and, decide_eq_true_iff]
  exact ⟨_, zz_sol hg rfl rfl⟩
theorem rgn1 (hok : pg_ok own col f s) {x : Int32} (hx : rgn own col f s x) {p : Nat} (hp : p < 8) : (∃ π, pg_win own col f s 1 π p) ↔ ¬ bt x p = true := by
  obtain ⟨V, hV⟩ := sol_ex hok
  have e : x = V 0 := rgn_same hx (sol_rgn hV)
  have h1 := hV.1 1 (by omega) p
  have h2 := hV.2.2 p
  rw [e]
  constructor
  · intro h
    exact (h2.mp (h1.mpr ⟨hp, h⟩)).2
  · intro h
    exact (h1.mp (h2.mpr ⟨hp, h⟩)).2
theorem due0 {x : Int32} (hx : rgn own col f s x) : ∀ p, bt x p = true ↔ (p < 8 ∧ ∃ π, pg_win own col f s 0 π p) := hx
theorem due1 (hok : pg_ok own col f s) {x : Int32} (hx : rgn own col f s x) : ∀ p, bt (nI 255 &&& (x ^^^ (-1))) p = true ↔ (p < 8 ∧ ∃ π, pg_win own col f s 1 π p) := by
  intro p
  rw [xb_diff, show (nI 255 : Int32) = 255 from rfl, Bool.and_eq_true, x255, Bool.not_eq_true', ← Bool.not_eq_true]
  constructor
  · rintro ⟨h1, h2⟩
    exact ⟨h1, (rgn1 hok hx h1).mpr h2⟩
  · rintro ⟨h1, h2⟩
    exact ⟨h1, (rgn1 hok hx h1).mp h2⟩
theorem tgood {i : Nat} {ch due w : Int32} (hd : ∀ p, bt due p = true ↔ (p < 8 ∧ ∃ π, pg_win own col f s i π p)) (hw : ∀ p, bt w p = true ↔ (p < 8 ∧ pg_win own col f s i (bt ch) p)) : due &&& (w ^^^ (-1)) = 0 ↔ gd own col f s i ch := by
  rw [xb_eq0]
  constructor
  · intro h p hp hex
    apply Classical.byContradiction
    intro hn
    refine h p ?_
    rw [xb_diff, Bool.and_eq_true, hd, Bool.not_eq_true', ← Bool.not_eq_true, hw]
    exact ⟨⟨hp, hex⟩, fun h2 => hn h2.2⟩
  · intro h p hp
    rw [xb_diff, Bool.and_eq_true, hd, Bool.not_eq_true', ← Bool.not_eq_true, hw] at hp
    exact hp.2 ⟨hp.1.1, h p hp.1.1 hp.1.2⟩
theorem plan_bits {i : Nat} {ch x : Int32} {R : Nat → Int32} (hb : ∀ p, bt x p = true ↔ (p < 8 ∧ pg_bad own col f s i (bt ch) p)) (hok : pg_ok own col f s) (hR : rch own col f s i ch 5 R) (p : Nat) : bt (pm (fun k => ¬ bt x k = true ∧ R k &&& x = 0) 0 8) p = true ↔ (p < 8 ∧ pg_win own col f s i (bt ch) p) := by
  rw [pm_bits0]
  constructor
  · rintro ⟨h1, h2⟩
    exact ⟨h1, (win_bits2 hb hok hR h1).mp h2⟩
  · rintro ⟨h1, h2⟩
    exact ⟨h1, (win_bits2 hb hok hR h1).mpr h2⟩
theorem mine_bits (hg : tv own col f s O C F S) (p : Nat) : bt (pm (fun k => O k = 0) 0 8) p = true ↔ (p < 8 ∧ own p = 0) := by
  rw [pm_bits0]
  have e : ∀ p, p < 8 → (O p = 0 ↔ own p = 0) := fun p hp => by
    rw [(hg.2 p hp).1, ← nI_0, nI_eq (by have := (hg.1 p hp).1; omega) (by omega)]
  constructor
  · rintro ⟨h1, h2⟩
    exact ⟨h1, (e p h1).mp h2⟩
  · rintro ⟨h1, h2⟩
    exact ⟨h1, (e p h1).mpr h2⟩
theorem win_t {x : Int32} (hx : rgn own col f s x) {j : Nat} (hj : j < 8) (h : bt x j = true) : a_win own col f s (nI j) = 0 := by
  unfold a_win
  rw [cif_f (a_bad_not hj), nI_clamp (by omega), cif_t ((hx j).mp h).2]
theorem win_f {x : Int32} (hx : rgn own col f s x) {j : Nat} (hj : j < 8) (h : ¬ bt x j = true) : a_win own col f s (nI j) = 1 := by
  unfold a_win
  rw [cif_f (a_bad_not hj), nI_clamp (by omega), cif_f (fun h2 => h ((hx j).mpr ⟨hj, h2⟩))]
theorem gd_ex (hok : pg_ok own col f s) {i : Nat} (hi : i ≤ 1) : ∃ c, c < 256 ∧ gd own col f s i (nI c) := by
  obtain ⟨V, hV⟩ := sol_ex hok
  exact gd_num hV hi
theorem turn1 (hg : tv own col f s O C F S) {k : Nat} (hk : k < 8) : 1 - O k = nI (1 - own k) := by
  rw [(hg.2 k hk).1]
  exact i1_sub (hg.1 k hk).1
theorem turn2 (hg : tv own col f s O C F S) {k : Nat} (hk : k < 8) : upd (upd O k (nI (1 - own k))) k (1 - upd O k (nI (1 - own k)) k) = O := by
  rw [pk_us, upd_upd, i1_sub (by omega)]
  have h1 := (hg.1 k hk).1
  rw [show 1 - (1 - own k) = own k by omega, ← (hg.2 k hk).1, upd_self]
theorem hand_t (hg : tv own col f s O C F S) {j : Nat} (hj : j < 8) : upd O j (nI (1 - own j)) j = a_hand own (nI j) := by
  rw [pk_us]
  unfold a_hand
  rw [cif_f (a_bad_not hj), nI_clamp (by omega)]
theorem good_1 {i : Nat} {ch : Int32} (hi : i ≤ 1) (h : a_good own col f s (nI i) ch = 1) : gd own col f s i ch := by
  apply Classical.byContradiction
  intro hn
  rw [good_f hi hn] at h
  exact absurd h (by decide)
theorem good_0 {i : Nat} {ch : Int32} (hi : i ≤ 1) (h : a_good own col f s (nI i) ch = 0) : ¬ gd own col f s i ch := by
  intro hn
  rw [good_t hi hn] at h
  exact absurd h (by decide)
theorem good_01 (x ch : Int32) : a_good own col f s x ch = 0 ∨ a_good own col f s x ch = 1 := by
  unfold a_good
  by_cases h : a_npl x
  · exact Or.inl (cif_t h)
  · rw [cif_f h]
    by_cases h2 : gd own col f s x.toNatClampNeg ch
    · exact Or.inr (cif_t h2)
    · exact Or.inl (cif_f h2)
end
/-- the model's whole state -/
abbrev MSt : Type := (Nat → Int32) × (Nat → Int32) × (Nat → Int32) × (Nat → Int32) × (Nat → Int32) × Int32 × Int32
abbrev wMu (ad : Nat → Nat) (d : ClassId) (u : MSt) : va_W := wM ad d u.1 u.2.1 u.2.2.1 u.2.2.2.1 u.2.2.2.2.1 u.2.2.2.2.2.1 u.2.2.2.2.2.2
abbrev tvu (own col f s : Nat → Nat) (u : MSt) : Prop := tv own col f s u.1 u.2.1 u.2.2.1 u.2.2.2.1 ∧ kc own col f s u.2.2.2.2.2.1 u.2.2.2.2.2.2
end
section
/-! 16.x1a: printed by gen (walks) -/
set_option maxRecDepth 100000
set_option maxHeartbeats 4000000 in
set_option maxRecDepth 100000 in
theorem m1_bad (l : Launch) (D : va_G) (ad : Nat → Nat) (d : ClassId) (kn wi : Int32) (O C F S R : Nat → Int32) (x : Int32) : CI l yX1_bad cX1_bad 2 (some .boolean) 0 0 D d [.ref (ad 0), .int x] (wM ad d O C F S R kn wi) (fun r (_ : Unit) => (r = 1 ∧ a_bad x) ∨ (r = 0 ∧ ∃ j, j < 8 ∧ x = nI j)) (fun (_ : Unit) => wM ad d O C F S R kn wi) := by
  refine CZ_of (by decide) (Nat.le_of_ble_eq_true rfl) (fun p e s m below meth c A Q ls E hret => ?_)
  obtain ⟨hx, hb, hml, hown, hts, hA, hK, hP, hD, hS, hl⟩ := E
  have hown : s.vm.findClass RX1 = some m.cls := hown
  have hl : lv_has ls 2 [(0, .ref (ad 0)), (1, .int x)] := hl
  refine lv_iload_n hx hb dX1_bad_0 rfl (lv_at hl 1 rfl) ?_
  refine lv_if_lt (tgt := 10) hx hb dX1_bad_1 (by decide) (fun c1 => ?_) (fun c1 => ?_)
  · refine lv_iconst (v := 1) hx hb dX1_bad_10 (by decide) ?_
    refine lv_goto (tgt := 15) hx hb dX1_bad_11 (by decide) ?_
    exact hret _ _ _ _ _ () dX1_bad_15 (Or.inr rfl) (Or.inl ⟨rfl, Or.inl c1⟩) hP hD hS
  · refine lv_iload_n hx hb dX1_bad_4 rfl (lv_at hl 1 rfl) ?_
    refine lv_bipush (v := nI 7) hx hb dX1_bad_5 (by decide) ?_
    refine lv_icmp_le (tgt := 14) hx hb dX1_bad_7 (by decide) (fun c7 => ?_) (fun c7 => ?_)
    · refine lv_iconst (v := 0) hx hb dX1_bad_14 (by decide) ?_
      exact hret _ _ _ _ _ () dX1_bad_15 (Or.inl rfl) (Or.inr ⟨rfl, ix_of7 c1 c7⟩) hP hD hS
    · refine lv_iconst (v := 1) hx hb dX1_bad_10 (by decide) ?_
      refine lv_goto (tgt := 15) hx hb dX1_bad_11 (by decide) ?_
      exact hret _ _ _ _ _ () dX1_bad_15 (Or.inr rfl) (Or.inl ⟨rfl, Or.inr (bad_of7 c7)⟩) hP hD hS
set_option maxHeartbeats 4000000 in
set_option maxRecDepth 100000 in
theorem m1_badColour (l : Launch) (D : va_G) (ad : Nat → Nat) (d : ClassId) (kn wi : Int32) (O C F S R : Nat → Int32) (x : Int32) : CI l yX1_badColour cX1_badColour 2 (some .boolean) 0 0 D d [.ref (ad 0), .int x] (wM ad d O C F S R kn wi) (fun r (_ : Unit) => (r = 1 ∧ a_ncl x) ∨ (r = 0 ∧ ∃ b, b ≤ 5 ∧ x = nI b)) (fun (_ : Unit) => wM ad d O C F S R kn wi) := by
  refine CZ_of (by decide) (Nat.le_of_ble_eq_true rfl) (fun p e s m below meth c A Q ls E hret => ?_)
  obtain ⟨hx, hb, hml, hown, hts, hA, hK, hP, hD, hS, hl⟩ := E
  have hown : s.vm.findClass RX1 = some m.cls := hown
  have hl : lv_has ls 2 [(0, .ref (ad 0)), (1, .int x)] := hl
  refine lv_iload_n hx hb dX1_badColour_0 rfl (lv_at hl 1 rfl) ?_
  refine lv_if_lt (tgt := 9) hx hb dX1_badColour_1 (by decide) (fun c1 => ?_) (fun c1 => ?_)
  · refine lv_iconst (v := 1) hx hb dX1_badColour_9 (by decide) ?_
    refine lv_goto (tgt := 14) hx hb dX1_badColour_10 (by decide) ?_
    exact hret _ _ _ _ _ () dX1_badColour_14 (Or.inr rfl) (Or.inl ⟨rfl, Or.inl c1⟩) hP hD hS
  · refine lv_iload_n hx hb dX1_badColour_4 rfl (lv_at hl 1 rfl) ?_
    refine lv_iconst (v := 5) hx hb dX1_badColour_5 (by decide) ?_
    refine lv_icmp_le (tgt := 13) hx hb dX1_badColour_6 (by decide) (fun c6 => ?_) (fun c6 => ?_)
    · refine lv_iconst (v := 0) hx hb dX1_badColour_13 (by decide) ?_
      exact hret _ _ _ _ _ () dX1_badColour_14 (Or.inl rfl) (Or.inr ⟨rfl, cl_of c1 c6⟩) hP hD hS
    · refine lv_iconst (v := 1) hx hb dX1_badColour_9 (by decide) ?_
      refine lv_goto (tgt := 14) hx hb dX1_badColour_10 (by decide) ?_
      exact hret _ _ _ _ _ () dX1_badColour_14 (Or.inr rfl) (Or.inl ⟨rfl, Or.inr (i32_nle c6)⟩) hP hD hS
theorem tvu_set_no {own col f s : Nat → Nat} {O C F S R : Nat → Int32} {kn wi ps pl cl mv : Int32} (h : ¬ okset ps pl cl) (hg : tv own col f s O C F S) (hk : kc own col f s kn wi) : tvu (s_own own ps pl cl) (s_col col ps pl cl) (s_f f ps pl cl mv) (s_s s ps pl cl mv) (O, C, F, S, R, kn, wi) := by
  refine ⟨tv_set_no h hg, ?_⟩
  have e1 : s_own own ps pl cl = own := funext fun q => cif_f (fun e => h e.1)
  have e2 : s_col col ps pl cl = col := funext fun q => cif_f (fun e => h e.1)
  have e3 : s_f f ps pl cl mv = f := funext fun q => cif_f (fun e => h e.1)
  have e4 : s_s s ps pl cl mv = s := funext fun q => cif_f (fun e => h e.1)
  rw [e1, e2, e3, e4]
  exact hk
set_option maxHeartbeats 4000000 in
set_option maxRecDepth 100000 in
theorem m1_set (l : Launch) (D : va_G) (ad : Nat → Nat) (d : ClassId) (kn wi : Int32) (O C F S R : Nat → Int32) (own col f1 f2 : Nat → Nat) (hg : tv own col f1 f2 O C F S) (hkc : kc own col f1 f2 kn wi) (x pl cl mv : Int32) : CI l yX1_set cX1_set 5 (some .int) 1 21 D d [.ref (ad 0), .int x, .int pl, .int cl, .int mv] (wM ad d O C F S R kn wi) (fun r (u : MSt) => r = a_set x pl cl ∧ tvu (s_own own x pl cl) (s_col col x pl cl) (s_f f1 x pl cl mv) (s_s f2 x pl cl mv) u) (fun (u : MSt) => wMu ad d u) := by
  refine CI_of (by decide) (Nat.le_of_ble_eq_true rfl) (fun p e s m below meth c A Q ls E hret => ?_)
  obtain ⟨hx, hb, hml, hown, hts, hA, hK, hP, hD, hS, hl⟩ := E
  have hown : s.vm.findClass RX1 = some m.cls := hown
  have hl : lv_has ls 5 [(0, .ref (ad 0)), (1, .int x), (2, .int pl), (3, .int cl), (4, .int mv)] := hl
  refine lv_aload_n hx hb dX1_set_0 rfl (lv_at hl 0 rfl) ?_
  refine lv_iload_n hx hb dX1_set_1 rfl (lv_at hl 1 rfl) ?_
  refine x_vi [.int x] [] 1 (m1_bad l D ad d kn wi O C F S R x) hx hb hml hown hts hA hK hP hD hS (lw_V q202 q204 qs15 q22 q205) (by decide +kernel) rfl ⟨Nat.le_of_ble_eq_true rfl, Nat.le_of_ble_eq_true rfl⟩ rfl rfl rfl rfl hl.1 (Nat.le_of_ble_eq_true rfl) ⟨Nat.zero_le _, Nat.zero_le _⟩ dX1_set_2 (fun r u H locs hw hP hD hS => ?_)
  rcases hw with ⟨rfl, hbx⟩ | ⟨rfl, j, hj, rfl⟩
  · refine lv_if_eq (tgt := 10) hx hb dX1_set_5 (by decide) (fun cc9 => absurd cc9 (by decide)) (fun _ => ?_)
    refine lv_iconst (v := (-1)) hx hb dX1_set_8 (by decide) ?_
    exact hret _ _ _ _ _ (O, C, F, S, R, kn, wi) dX1_set_9 ⟨(cif_t hbx).symm, tvu_set_no (fun h => h.1 hbx) hg hkc⟩ hP hD hS
  · refine lv_if_eq (tgt := 10) hx hb dX1_set_5 (by decide) (fun _ => ?_) (fun cc9 => absurd (by decide) cc9)
    refine lv_iload_n hx hb dX1_set_10 rfl (lv_at hl 2 rfl) ?_
    refine lv_if_lt (tgt := 19) hx hb dX1_set_11 (by decide) (fun c11 => ?_) (fun c11 => ?_)
    · refine lv_bipush (v := (-3)) hx hb dX1_set_19 (by decide) ?_
      exact hret _ _ _ _ _ (O, C, F, S, R, kn, wi) dX1_set_21 ⟨((cif_f (a_bad_not hj)).trans (cif_t (Or.inl c11))).symm, tvu_set_no (fun h => h.2.1 (Or.inl c11)) hg hkc⟩ hP hD hS
    · refine lv_iload_n hx hb dX1_set_14 rfl (lv_at hl 2 rfl) ?_
      refine lv_iconst (v := 1) hx hb dX1_set_15 (by decide) ?_
      refine lv_icmp_le (tgt := 22) hx hb dX1_set_16 (by decide) (fun c16 => ?_) (fun c16 => ?_)
      · obtain ⟨a, ha, rfl⟩ := pl_of c11 c16
        refine lv_aload_n hx hb dX1_set_22 rfl (lv_at hl 0 rfl) ?_
        refine lv_iload_n hx hb dX1_set_23 rfl (lv_at hl 3 rfl) ?_
        refine x_vi [.int cl] [] 1 (m1_badColour l D ad d kn wi O C F S R cl) hx hb hml hown hts hA hK hP hD hS (lw_V q206 q208 qs16 q22 q209) (by decide +kernel) rfl ⟨Nat.le_of_ble_eq_true rfl, Nat.le_of_ble_eq_true rfl⟩ rfl rfl rfl rfl hl.1 (Nat.le_of_ble_eq_true rfl) ⟨Nat.zero_le _, Nat.zero_le _⟩ dX1_set_24 (fun r u H locs hw hP hD hS => ?_)
        rcases hw with ⟨rfl, hncl⟩ | ⟨rfl, b, hb9, rfl⟩
        · refine lv_if_eq (tgt := 33) hx hb dX1_set_27 (by decide) (fun cc9 => absurd cc9 (by decide)) (fun _ => ?_)
          refine lv_bipush (v := (-2)) hx hb dX1_set_30 (by decide) ?_
          exact hret _ _ _ _ _ (O, C, F, S, R, kn, wi) dX1_set_32 ⟨((cif_f (a_bad_not hj)).trans ((cif_f (a_npl_not ha)).trans (cif_t hncl))).symm, tvu_set_no (fun h => h.2.2 hncl) hg hkc⟩ hP hD hS
        · refine lv_if_eq (tgt := 33) hx hb dX1_set_27 (by decide) (fun _ => ?_) (fun cc9 => absurd (by decide) cc9)
          refine lv_aload_n hx hb dX1_set_33 rfl (lv_at hl 0 rfl) ?_
          refine x_g1 0 7 hx hb hown hts hK hP (by decide) q176 rfl rfl dX1_set_34 ?_
          refine lv_iload_n hx hb dX1_set_37 rfl (lv_at hl 1 rfl) ?_
          refine lv_iload_n hx hb dX1_set_38 rfl (lv_at hl 2 rfl) ?_
          refine x_ast j rfl 1 hj (by decide) hx hb hK hP hD hS rfl dX1_set_39 (fun H locs hP hD hS => ?_)
          have hP : va_P D vwCl (wM ad d (upd O j (nI a)) C F S R kn wi) H := hP
          have hD : va_D A (wM ad d (upd O j (nI a)) C F S R kn wi) := hD
          refine lv_aload_n hx hb dX1_set_40 rfl (lv_at hl 0 rfl) ?_
          refine x_g1 1 13 hx hb hown hts hK hP (by decide) q177 rfl rfl dX1_set_41 ?_
          refine lv_iload_n hx hb dX1_set_44 rfl (lv_at hl 1 rfl) ?_
          refine lv_iload_n hx hb dX1_set_45 rfl (lv_at hl 3 rfl) ?_
          refine x_ast j rfl 2 hj (by decide) hx hb hK hP hD hS rfl dX1_set_46 (fun H locs hP hD hS => ?_)
          have hP : va_P D vwCl (wM ad d (upd O j (nI a)) (upd C j (nI b)) F S R kn wi) H := hP
          have hD : va_D A (wM ad d (upd O j (nI a)) (upd C j (nI b)) F S R kn wi) := hD
          refine lv_aload_n hx hb dX1_set_47 rfl (lv_at hl 0 rfl) ?_
          refine x_g1 2 16 hx hb hown hts hK hP (by decide) q178 rfl rfl dX1_set_48 ?_
          refine lv_iload_n hx hb dX1_set_51 rfl (lv_at hl 1 rfl) ?_
          refine lv_iload hx hb dX1_set_52 (lv_at hl 4 rfl) ?_
          refine lv_bipush (v := nI 7) hx hb dX1_set_54 (by decide) ?_
          refine lv_iand hx hb dX1_set_56 ?_
          refine x_ast j rfl 3 hj (by decide) hx hb hK hP hD hS rfl dX1_set_57 (fun H locs hP hD hS => ?_)
          have hP : va_P D vwCl (wM ad d (upd O j (nI a)) (upd C j (nI b)) (upd F j (mv &&& (nI 7))) S R kn wi) H := hP
          have hD : va_D A (wM ad d (upd O j (nI a)) (upd C j (nI b)) (upd F j (mv &&& (nI 7))) S R kn wi) := hD
          refine lv_aload_n hx hb dX1_set_58 rfl (lv_at hl 0 rfl) ?_
          refine x_g1 3 19 hx hb hown hts hK hP (by decide) q179 rfl rfl dX1_set_59 ?_
          refine lv_iload_n hx hb dX1_set_62 rfl (lv_at hl 1 rfl) ?_
          refine lv_iload hx hb dX1_set_63 (lv_at hl 4 rfl) ?_
          refine lv_iconst (v := 3) hx hb dX1_set_65 (by decide) ?_
          refine lv_ishr hx hb dX1_set_66 ?_
          refine lv_bipush (v := nI 7) hx hb dX1_set_67 (by decide) ?_
          refine lv_iand hx hb dX1_set_69 ?_
          refine x_ast j rfl 4 hj (by decide) hx hb hK hP hD hS rfl dX1_set_70 (fun H locs hP hD hS => ?_)
          have hP : va_P D vwCl (wM ad d (upd O j (nI a)) (upd C j (nI b)) (upd F j (mv &&& (nI 7))) (upd S j ((mv >>> (3 &&& 31)) &&& (nI 7))) R kn wi) H := hP
          have hD : va_D A (wM ad d (upd O j (nI a)) (upd C j (nI b)) (upd F j (mv &&& (nI 7))) (upd S j ((mv >>> (3 &&& 31)) &&& (nI 7))) R kn wi) := hD
          refine lv_aload_n hx hb dX1_set_71 rfl (lv_at hl 0 rfl) ?_
          refine lv_iconst (v := 0) hx hb dX1_set_72 (by decide) ?_
          refine x_p1 (ty := .boolean) 5 32 hx hb hown hts hK hP hD hS (by decide) q181 rfl rfl (by decide +kernel) rfl rfl (Nat.le_of_ble_eq_true rfl) dX1_set_73 (fun H locs hP hD hS => ?_)
          have hP : va_P D vwCl (wM ad d (upd O j (nI a)) (upd C j (nI b)) (upd F j (mv &&& (nI 7))) (upd S j ((mv >>> (3 &&& 31)) &&& (nI 7))) R 0 wi) H := hP
          have hD : va_D A (wM ad d (upd O j (nI a)) (upd C j (nI b)) (upd F j (mv &&& (nI 7))) (upd S j ((mv >>> (3 &&& 31)) &&& (nI 7))) R 0 wi) := hD
          refine lv_iconst (v := 0) hx hb dX1_set_76 (by decide) ?_
          exact hret _ _ _ _ _ (upd O j (nI a), upd C j (nI b), upd F j (mv &&& (nI 7)), upd S j ((mv >>> (3 &&& 31)) &&& (nI 7)), R, 0, wi) dX1_set_77 ⟨((cif_f (a_bad_not hj)).trans ((cif_f (a_npl_not ha)).trans (cif_f (a_ncl_not hb9)))).symm, tv_set hg mv hj ha hb9, Or.inl rfl⟩ hP hD hS
      · refine lv_bipush (v := (-3)) hx hb dX1_set_19 (by decide) ?_
        exact hret _ _ _ _ _ (O, C, F, S, R, kn, wi) dX1_set_21 ⟨((cif_f (a_bad_not hj)).trans (cif_t (Or.inr (i32_nle c16)))).symm, tvu_set_no (fun h => h.2.1 (Or.inr (i32_nle c16))) hg hkc⟩ hP hD hS
set_option maxHeartbeats 4000000 in
set_option maxRecDepth 100000 in
theorem m1_paint (l : Launch) (D : va_G) (ad : Nat → Nat) (d : ClassId) (kn wi : Int32) (O C F S R : Nat → Int32) (own col f1 f2 : Nat → Nat) (hg : tv own col f1 f2 O C F S) (hkc : kc own col f1 f2 kn wi) (x cl : Int32) : CI l yX1_paint cX1_paint 4 (some .int) 1 21 D d [.ref (ad 0), .int x, .int cl] (wM ad d O C F S R kn wi) (fun r (u : MSt) => r = a_paint col x cl ∧ tvu own (p_col col x cl) f1 f2 u) (fun (u : MSt) => wMu ad d u) := by
  refine CI_of (by decide) (Nat.le_of_ble_eq_true rfl) (fun p e s m below meth c A Q ls E hret => ?_)
  obtain ⟨hx, hb, hml, hown, hts, hA, hK, hP, hD, hS, hl⟩ := E
  have hown : s.vm.findClass RX1 = some m.cls := hown
  have hl : lv_has ls 4 [(0, .ref (ad 0)), (1, .int x), (2, .int cl)] := hl
  refine lv_aload_n hx hb dX1_paint_0 rfl (lv_at hl 0 rfl) ?_
  refine lv_iload_n hx hb dX1_paint_1 rfl (lv_at hl 1 rfl) ?_
  refine x_vi [.int x] [] 1 (m1_bad l D ad d kn wi O C F S R x) hx hb hml hown hts hA hK hP hD hS (lw_V q202 q204 qs15 q22 q205) (by decide +kernel) rfl ⟨Nat.le_of_ble_eq_true rfl, Nat.le_of_ble_eq_true rfl⟩ rfl rfl rfl rfl hl.1 (Nat.le_of_ble_eq_true rfl) ⟨Nat.zero_le _, Nat.zero_le _⟩ dX1_paint_2 (fun r u H locs hw hP hD hS => ?_)
  rcases hw with ⟨rfl, hbx⟩ | ⟨rfl, j, hj, rfl⟩
  · refine lv_if_eq (tgt := 10) hx hb dX1_paint_5 (by decide) (fun cc9 => absurd cc9 (by decide)) (fun _ => ?_)
    refine lv_iconst (v := (-1)) hx hb dX1_paint_8 (by decide) ?_
    exact hret _ _ _ _ _ (O, C, F, S, R, kn, wi) dX1_paint_9 ⟨(cif_t hbx).symm, by rw [p_col_no (fun h => h.1 hbx)]; exact ⟨hg, hkc⟩⟩ hP hD hS
  · refine lv_if_eq (tgt := 10) hx hb dX1_paint_5 (by decide) (fun _ => ?_) (fun cc9 => absurd (by decide) cc9)
    refine lv_aload_n hx hb dX1_paint_10 rfl (lv_at hl 0 rfl) ?_
    refine lv_iload_n hx hb dX1_paint_11 rfl (lv_at hl 2 rfl) ?_
    refine x_vi [.int cl] [] 1 (m1_badColour l D ad d kn wi O C F S R cl) hx hb hml hown hts hA hK hP hD hS (lw_V q206 q208 qs16 q22 q209) (by decide +kernel) rfl ⟨Nat.le_of_ble_eq_true rfl, Nat.le_of_ble_eq_true rfl⟩ rfl rfl rfl rfl hl.1 (Nat.le_of_ble_eq_true rfl) ⟨Nat.zero_le _, Nat.zero_le _⟩ dX1_paint_12 (fun r u H locs hw hP hD hS => ?_)
    rcases hw with ⟨rfl, hncl⟩ | ⟨rfl, b, hb9, rfl⟩
    · refine lv_if_eq (tgt := 21) hx hb dX1_paint_15 (by decide) (fun cc9 => absurd cc9 (by decide)) (fun _ => ?_)
      refine lv_bipush (v := (-2)) hx hb dX1_paint_18 (by decide) ?_
      exact hret _ _ _ _ _ (O, C, F, S, R, kn, wi) dX1_paint_20 ⟨((cif_f (a_bad_not hj)).trans (cif_t hncl)).symm, by rw [p_col_no (fun h => h.2 hncl)]; exact ⟨hg, hkc⟩⟩ hP hD hS
    · refine lv_if_eq (tgt := 21) hx hb dX1_paint_15 (by decide) (fun _ => ?_) (fun cc9 => absurd (by decide) cc9)
      refine lv_aload_n hx hb dX1_paint_21 rfl (lv_at hl 0 rfl) ?_
      refine x_g1 1 13 hx hb hown hts hK hP (by decide) q177 rfl rfl dX1_paint_22 ?_
      refine lv_iload_n hx hb dX1_paint_25 rfl (lv_at hl 1 rfl) ?_
      refine x_ald j rfl 2 hj (by decide) hx hb hK hP rfl dX1_paint_26 ?_
      refine lv_istore_n (lv' := [(3, .int (C j)), (0, .ref (ad 0)), (1, .int (nI j)), (2, .int (nI b))]) hx hb dX1_paint_27 rfl hl (by decide) rfl (fun ls hl => ?_)
      refine lv_aload_n hx hb dX1_paint_28 rfl (lv_at hl 1 rfl) ?_
      refine x_g1 1 13 hx hb hown hts hK hP (by decide) q177 rfl rfl dX1_paint_29 ?_
      refine lv_iload_n hx hb dX1_paint_32 rfl (lv_at hl 2 rfl) ?_
      refine lv_iload_n hx hb dX1_paint_33 rfl (lv_at hl 3 rfl) ?_
      refine x_ast j rfl 2 hj (by decide) hx hb hK hP hD hS rfl dX1_paint_34 (fun H locs hP hD hS => ?_)
      have hP : va_P D vwCl (wM ad d O (upd C j (nI b)) F S R kn wi) H := hP
      have hD : va_D A (wM ad d O (upd C j (nI b)) F S R kn wi) := hD
      refine lv_aload_n hx hb dX1_paint_35 rfl (lv_at hl 1 rfl) ?_
      refine lv_iconst (v := 0) hx hb dX1_paint_36 (by decide) ?_
      refine x_p1 (ty := .boolean) 5 32 hx hb hown hts hK hP hD hS (by decide) q181 rfl rfl (by decide +kernel) rfl rfl (Nat.le_of_ble_eq_true rfl) dX1_paint_37 (fun H locs hP hD hS => ?_)
      have hP : va_P D vwCl (wM ad d O (upd C j (nI b)) F S R 0 wi) H := hP
      have hD : va_D A (wM ad d O (upd C j (nI b)) F S R 0 wi) := hD
      refine lv_iload_n hx hb dX1_paint_40 rfl (lv_at hl 0 rfl) ?_
      exact hret _ _ _ _ _ (O, upd C j (nI b), F, S, R, 0, wi) dX1_paint_41 ⟨(hg.2 j hj).2.1.trans (paint_ans hj hb9).symm, tv_paint hg hj hb9, Or.inl rfl⟩ hP hD hS
set_option maxHeartbeats 4000000 in
set_option maxRecDepth 100000 in
theorem m1_hand (l : Launch) (D : va_G) (ad : Nat → Nat) (d : ClassId) (kn wi : Int32) (O C F S R : Nat → Int32) (own col f1 f2 : Nat → Nat) (hg : tv own col f1 f2 O C F S) (hkc : kc own col f1 f2 kn wi) (x : Int32) : CI l yX1_hand cX1_hand 2 (some .int) 1 21 D d [.ref (ad 0), .int x] (wM ad d O C F S R kn wi) (fun r (u : MSt) => r = a_hand own x ∧ tvu (h_own own x) col f1 f2 u) (fun (u : MSt) => wMu ad d u) := by
  refine CI_of (by decide) (Nat.le_of_ble_eq_true rfl) (fun p e s m below meth c A Q ls E hret => ?_)
  obtain ⟨hx, hb, hml, hown, hts, hA, hK, hP, hD, hS, hl⟩ := E
  have hown : s.vm.findClass RX1 = some m.cls := hown
  have hl : lv_has ls 2 [(0, .ref (ad 0)), (1, .int x)] := hl
  refine lv_aload_n hx hb dX1_hand_0 rfl (lv_at hl 0 rfl) ?_
  refine lv_iload_n hx hb dX1_hand_1 rfl (lv_at hl 1 rfl) ?_
  refine x_vi [.int x] [] 1 (m1_bad l D ad d kn wi O C F S R x) hx hb hml hown hts hA hK hP hD hS (lw_V q202 q204 qs15 q22 q205) (by decide +kernel) rfl ⟨Nat.le_of_ble_eq_true rfl, Nat.le_of_ble_eq_true rfl⟩ rfl rfl rfl rfl hl.1 (Nat.le_of_ble_eq_true rfl) ⟨Nat.zero_le _, Nat.zero_le _⟩ dX1_hand_2 (fun r u H locs hw hP hD hS => ?_)
  rcases hw with ⟨rfl, hbx⟩ | ⟨rfl, j, hj, rfl⟩
  · refine lv_if_eq (tgt := 10) hx hb dX1_hand_5 (by decide) (fun cc9 => absurd cc9 (by decide)) (fun _ => ?_)
    refine lv_iconst (v := (-1)) hx hb dX1_hand_8 (by decide) ?_
    exact hret _ _ _ _ _ (O, C, F, S, R, kn, wi) dX1_hand_9 ⟨(cif_t hbx).symm, by rw [h_own_no hbx]; exact ⟨hg, hkc⟩⟩ hP hD hS
  · refine lv_if_eq (tgt := 10) hx hb dX1_hand_5 (by decide) (fun _ => ?_) (fun cc9 => absurd (by decide) cc9)
    refine lv_aload_n hx hb dX1_hand_10 rfl (lv_at hl 0 rfl) ?_
    refine x_g1 0 7 hx hb hown hts hK hP (by decide) q176 rfl rfl dX1_hand_11 ?_
    refine lv_iload_n hx hb dX1_hand_14 rfl (lv_at hl 1 rfl) ?_
    refine lv_iconst (v := 1) hx hb dX1_hand_15 (by decide) ?_
    refine lv_aload_n hx hb dX1_hand_16 rfl (lv_at hl 0 rfl) ?_
    refine x_g1 0 7 hx hb hown hts hK hP (by decide) q176 rfl rfl dX1_hand_17 ?_
    refine lv_iload_n hx hb dX1_hand_20 rfl (lv_at hl 1 rfl) ?_
    refine x_ald j rfl 1 hj (by decide) hx hb hK hP rfl dX1_hand_21 ?_
    refine lv_isub hx hb dX1_hand_22 ?_
    rw [turn1 hg hj]
    refine x_ast j rfl 1 hj (by decide) hx hb hK hP hD hS rfl dX1_hand_23 (fun H locs hP hD hS => ?_)
    have hP : va_P D vwCl (wM ad d (upd O j (nI (1 - own j))) C F S R kn wi) H := hP
    have hD : va_D A (wM ad d (upd O j (nI (1 - own j))) C F S R kn wi) := hD
    refine lv_aload_n hx hb dX1_hand_24 rfl (lv_at hl 0 rfl) ?_
    refine lv_iconst (v := 0) hx hb dX1_hand_25 (by decide) ?_
    refine x_p1 (ty := .boolean) 5 32 hx hb hown hts hK hP hD hS (by decide) q181 rfl rfl (by decide +kernel) rfl rfl (Nat.le_of_ble_eq_true rfl) dX1_hand_26 (fun H locs hP hD hS => ?_)
    have hP : va_P D vwCl (wM ad d (upd O j (nI (1 - own j))) C F S R 0 wi) H := hP
    have hD : va_D A (wM ad d (upd O j (nI (1 - own j))) C F S R 0 wi) := hD
    refine lv_aload_n hx hb dX1_hand_29 rfl (lv_at hl 0 rfl) ?_
    refine x_g1 0 7 hx hb hown hts hK hP (by decide) q176 rfl rfl dX1_hand_30 ?_
    refine lv_iload_n hx hb dX1_hand_33 rfl (lv_at hl 1 rfl) ?_
    refine x_ald j rfl 1 hj (by decide) hx hb hK hP rfl dX1_hand_34 ?_
    exact hret _ _ _ _ _ (upd O j (nI (1 - own j)), C, F, S, R, 0, wi) dX1_hand_35 ⟨hand_t hg hj, by rw [h_own_f hj]; exact tv_flip hg hj, Or.inl rfl⟩ hP hD hS
set_option maxHeartbeats 4000000 in
set_option maxRecDepth 100000 in
theorem m1_mirror (l : Launch) (D : va_G) (ad : Nat → Nat) (d : ClassId) (kn wi : Int32) (O C F S R : Nat → Int32) (own col f1 f2 : Nat → Nat) (hg : tv own col f1 f2 O C F S) (hkc : kc own col f1 f2 kn wi) : CV l yX1_mirror cX1_mirror 2 0 0 D d [.ref (ad 0)] (wM ad d O C F S R kn wi) (fun (u : MSt) => tvu (m_own own) (m_col col) f1 f2 u) (fun (u : MSt) => wMu ad d u) := by
  refine CV_of (by decide) (Nat.le_of_ble_eq_true rfl) (fun p e s m below meth c A Q ls E hret => ?_)
  obtain ⟨hx, hb, hml, hown, hts, hA, hK, hP, hD, hS, hl⟩ := E
  have hown : s.vm.findClass RX1 = some m.cls := hown
  have hl : lv_has ls 2 [(0, .ref (ad 0))] := hl
  refine lv_iconst (v := 0) hx hb dX1_mirror_0 (by decide) ?_
  refine lv_istore_n (lv' := [(1, .int 0), (0, .ref (ad 0))]) hx hb dX1_mirror_1 rfl hl (by decide) rfl (fun ls hl => ?_)
  have lp : ∀ (n k : Nat), k + n = 8 → ∀ (H : Heap) (locs : List Loc) (ls : Array Slot), va_P D vwCl (wM ad d (mro O k) (mrc C k) F S R kn wi) H → va_D A (wM ad d (mro O k) (mrc C k) F S R kn wi) → va_S A s.heap H locs → lv_has ls 2 [(1, .int (nI k)), (0, .ref (ad 0))] → W p l e { frames := 0, cells := 0, slots := 0, locals := 0 } s m ([.ref (ad 0)] : List Value).toArray below meth c H locs 0 0 Q (F0 m 2 ls []) := by
    intro n
    induction n with
    | zero =>
      intro k hk H locs ls hP hD hS hl
      obtain rfl : k = 8 := by omega
      refine lv_iload_n hx hb dX1_mirror_2 rfl (lv_at hl 0 rfl) ?_
      refine lv_bipush (v := nI 8) hx hb dX1_mirror_3 (by decide) ?_
      refine lv_icmp_ge (tgt := 56) hx hb dX1_mirror_5 (by decide) (fun _ => ?_) (fun cc9 => absurd (nI_le (Nat.le_refl 8) (by decide)) cc9)
      refine lv_aload_n hx hb dX1_mirror_56 rfl (lv_at hl 1 rfl) ?_
      refine lv_iconst (v := 0) hx hb dX1_mirror_57 (by decide) ?_
      refine x_p1 (ty := .boolean) 5 32 hx hb hown hts hK hP hD hS (by decide) q181 rfl rfl (by decide +kernel) rfl rfl (Nat.le_of_ble_eq_true rfl) dX1_mirror_58 (fun H locs hP hD hS => ?_)
      have hP : va_P D vwCl (wM ad d (mro O 8) (mrc C 8) F S R 0 wi) H := hP
      have hD : va_D A (wM ad d (mro O 8) (mrc C 8) F S R 0 wi) := hD
      exact hret _ _ _ _ (mro O 8, mrc C 8, F, S, R, 0, wi) dX1_mirror_61 ⟨tv_mir hg, Or.inl rfl⟩ hP hD hS
    | succ n ih =>
      intro k hk H locs ls hP hD hS hl
      refine lv_iload_n hx hb dX1_mirror_2 rfl (lv_at hl 0 rfl) ?_
      refine lv_bipush (v := nI 8) hx hb dX1_mirror_3 (by decide) ?_
      refine lv_icmp_ge (tgt := 56) hx hb dX1_mirror_5 (by decide) (fun cc9 => absurd cc9 (nI_ge (by omega) (by decide))) (fun _ => ?_)
      refine lv_aload_n hx hb dX1_mirror_8 rfl (lv_at hl 1 rfl) ?_
      refine x_g1 0 7 hx hb hown hts hK hP (by decide) q176 rfl rfl dX1_mirror_9 ?_
      refine lv_iload_n hx hb dX1_mirror_12 rfl (lv_at hl 0 rfl) ?_
      refine lv_iconst (v := 1) hx hb dX1_mirror_13 (by decide) ?_
      refine lv_aload_n hx hb dX1_mirror_14 rfl (lv_at hl 1 rfl) ?_
      refine x_g1 0 7 hx hb hown hts hK hP (by decide) q176 rfl rfl dX1_mirror_15 ?_
      refine lv_iload_n hx hb dX1_mirror_18 rfl (lv_at hl 0 rfl) ?_
      refine x_ald k rfl 1 (by omega) (by decide) hx hb hK hP rfl dX1_mirror_19 ?_
      refine lv_isub hx hb dX1_mirror_20 ?_
      refine x_ast k rfl 1 (by omega) (by decide) hx hb hK hP hD hS rfl dX1_mirror_21 (fun H locs hP hD hS => ?_)
      have hP : va_P D vwCl (wM ad d (upd (mro O k) k (1 - ((mro O k) k))) (mrc C k) F S R kn wi) H := hP
      have hD : va_D A (wM ad d (upd (mro O k) k (1 - ((mro O k) k))) (mrc C k) F S R kn wi) := hD
      refine lv_aload_n hx hb dX1_mirror_22 rfl (lv_at hl 1 rfl) ?_
      refine x_g1 1 13 hx hb hown hts hK hP (by decide) q177 rfl rfl dX1_mirror_23 ?_
      refine lv_iload_n hx hb dX1_mirror_26 rfl (lv_at hl 0 rfl) ?_
      refine lv_aload_n hx hb dX1_mirror_27 rfl (lv_at hl 1 rfl) ?_
      refine x_g1 1 13 hx hb hown hts hK hP (by decide) q177 rfl rfl dX1_mirror_28 ?_
      refine lv_iload_n hx hb dX1_mirror_31 rfl (lv_at hl 0 rfl) ?_
      refine x_ald k rfl 2 (by omega) (by decide) hx hb hK hP rfl dX1_mirror_32 ?_
      refine lv_iconst (v := 5) hx hb dX1_mirror_33 (by decide) ?_
      refine lv_icmp_ne (tgt := 41) hx hb dX1_mirror_34 (by decide) (fun c34 => ?_) (fun c34 => ?_)
      · refine lv_aload_n hx hb dX1_mirror_41 rfl (lv_at hl 1 rfl) ?_
        refine x_g1 1 13 hx hb hown hts hK hP (by decide) q177 rfl rfl dX1_mirror_42 ?_
        refine lv_iload_n hx hb dX1_mirror_45 rfl (lv_at hl 0 rfl) ?_
        refine x_ald k rfl 2 (by omega) (by decide) hx hb hK hP rfl dX1_mirror_46 ?_
        refine lv_iconst (v := 1) hx hb dX1_mirror_47 (by decide) ?_
        refine lv_iadd hx hb dX1_mirror_48 ?_
        refine x_ast k rfl 2 (by omega) (by decide) hx hb hK hP hD hS rfl dX1_mirror_49 (fun H locs hP hD hS => ?_)
        have hP : va_P D vwCl (wM ad d (upd (mro O k) k (1 - ((mro O k) k))) (upd (mrc C k) k (((mrc C k) k) + 1)) F S R kn wi) H := hP
        have hD : va_D A (wM ad d (upd (mro O k) k (1 - ((mro O k) k))) (upd (mrc C k) k (((mrc C k) k) + 1)) F S R kn wi) := hD
        refine lv_iinc (v := nI (k + 1)) (lv' := [(1, .int (nI (k + 1))), (0, .ref (ad 0))]) hx hb dX1_mirror_50 hl (k := 0) rfl (nI_i1 _) (by decide) rfl (fun ls hl => ?_)
        refine lv_goto (tgt := 2) hx hb dX1_mirror_53 (by decide) ?_
        have e9 : mrc C (k + 1) = upd (mrc C k) k (((mrc C k) k) + 1) := congrArg (upd (mrc C k) k) (if_neg c34)
        exact ih (k + 1) (by omega) H locs ls (by rw [e9]; exact hP) (by rw [e9]; exact hD) hS (lv_sub hl [0, 1] rfl)
      · refine lv_iconst (v := 0) hx hb dX1_mirror_37 (by decide) ?_
        refine lv_goto (tgt := 49) hx hb dX1_mirror_38 (by decide) ?_
        refine x_ast k rfl 2 (by omega) (by decide) hx hb hK hP hD hS rfl dX1_mirror_49 (fun H locs hP hD hS => ?_)
        have hP : va_P D vwCl (wM ad d (upd (mro O k) k (1 - ((mro O k) k))) (upd (mrc C k) k 0) F S R kn wi) H := hP
        have hD : va_D A (wM ad d (upd (mro O k) k (1 - ((mro O k) k))) (upd (mrc C k) k 0) F S R kn wi) := hD
        refine lv_iinc (v := nI (k + 1)) (lv' := [(1, .int (nI (k + 1))), (0, .ref (ad 0))]) hx hb dX1_mirror_50 hl (k := 0) rfl (nI_i1 _) (by decide) rfl (fun ls hl => ?_)
        refine lv_goto (tgt := 2) hx hb dX1_mirror_53 (by decide) ?_
        have e9 : mrc C (k + 1) = upd (mrc C k) k 0 := congrArg (upd (mrc C k) k) (if_pos c34)
        exact ih (k + 1) (by omega) H locs ls (by rw [e9]; exact hP) (by rw [e9]; exact hD) hS (lv_sub hl [0, 1] rfl)
  exact lp 8 0 rfl _ _ ls hP hD hS (lv_sub hl [0, 1] rfl)
set_option maxHeartbeats 4000000 in
set_option maxRecDepth 100000 in
theorem m1_close (l : Launch) (D : va_G) (ad : Nat → Nat) (d : ClassId) (kn wi : Int32) (O C F S R : Nat → Int32) (pl ch mo : Int32) : CV l yX1_close cX1_close 10 0 0 D d [.ref (ad 0), .int pl, .int ch, .int mo] (wM ad d O C F S R kn wi) (fun (_ : Unit) => True) (fun (_ : Unit) => wM ad d O C F S (wsh (tcl O C F S pl ch mo R 8) 8) kn wi) := by
  refine CV_of (by decide) (Nat.le_of_ble_eq_true rfl) (fun p e s m below meth c A Q ls E hret => ?_)
  obtain ⟨hx, hb, hml, hown, hts, hA, hK, hP, hD, hS, hl⟩ := E
  have hown : s.vm.findClass RX1 = some m.cls := hown
  have hl : lv_has ls 10 [(0, .ref (ad 0)), (1, .int pl), (2, .int ch), (3, .int mo)] := hl
  refine lv_iconst (v := 0) hx hb dX1_close_0 (by decide) ?_
  refine lv_istore (lv' := [(4, .int 0), (0, .ref (ad 0)), (1, .int pl), (2, .int ch), (3, .int mo)]) hx hb dX1_close_1 hl (by decide) rfl (fun ls hl => ?_)
  have lp1 : ∀ (n k : Nat), k + n = 8 → ∀ (H : Heap) (locs : List Loc) (ls : Array Slot), va_P D vwCl (wM ad d O C F S (tcl O C F S pl ch mo R k) kn wi) H → va_D A (wM ad d O C F S (tcl O C F S pl ch mo R k) kn wi) → va_S A s.heap H locs → lv_has ls 10 [(4, .int (nI k)), (0, .ref (ad 0)), (1, .int pl), (2, .int ch), (3, .int mo)] → W p l e { frames := 0, cells := 0, slots := 0, locals := 0 } s m ([.ref (ad 0), .int pl, .int ch, .int mo] : List Value).toArray below meth c H locs 0 0 Q (F0 m 3 ls []) := by
    intro n
    induction n with
    | zero =>
      intro k hk H locs ls hP hD hS hl
      obtain rfl : k = 8 := by omega
      refine lv_iload hx hb dX1_close_3 (lv_at hl 0 rfl) ?_
      refine lv_bipush (v := nI 8) hx hb dX1_close_5 (by decide) ?_
      refine lv_icmp_ge (tgt := 156) hx hb dX1_close_7 (by decide) (fun _ => ?_) (fun cc9 => absurd (nI_le (Nat.le_refl 8) (by decide)) cc9)
      refine lv_iconst (v := 0) hx hb dX1_close_156 (by decide) ?_
      refine lv_istore (lv' := [(4, .int 0), (0, .ref (ad 0)), (1, .int pl), (2, .int ch), (3, .int mo)]) hx hb dX1_close_157 hl (by decide) rfl (fun ls hl => ?_)
      have lp2 : ∀ (n k : Nat), k + n = 8 → ∀ (H : Heap) (locs : List Loc) (ls : Array Slot), va_P D vwCl (wM ad d O C F S (wsh (tcl O C F S pl ch mo R 8) k) kn wi) H → va_D A (wM ad d O C F S (wsh (tcl O C F S pl ch mo R 8) k) kn wi) → va_S A s.heap H locs → lv_has ls 10 [(4, .int (nI k)), (0, .ref (ad 0)), (1, .int pl), (2, .int ch), (3, .int mo)] → W p l e { frames := 0, cells := 0, slots := 0, locals := 0 } s m ([.ref (ad 0), .int pl, .int ch, .int mo] : List Value).toArray below meth c H locs 0 0 Q (F0 m 159 ls []) := by
        intro n
        induction n with
        | zero =>
          intro k hk H locs ls hP hD hS hl
          obtain rfl : k = 8 := by omega
          refine lv_iload hx hb dX1_close_159 (lv_at hl 0 rfl) ?_
          refine lv_bipush (v := nI 8) hx hb dX1_close_161 (by decide) ?_
          refine lv_icmp_ge (tgt := 226) hx hb dX1_close_163 (by decide) (fun _ => ?_) (fun cc9 => absurd (nI_le (Nat.le_refl 8) (by decide)) cc9)
          exact hret _ _ _ _ () dX1_close_226 trivial hP hD hS
        | succ n ih =>
          intro k hk H locs ls hP hD hS hl
          refine lv_iload hx hb dX1_close_159 (lv_at hl 0 rfl) ?_
          refine lv_bipush (v := nI 8) hx hb dX1_close_161 (by decide) ?_
          refine lv_icmp_ge (tgt := 226) hx hb dX1_close_163 (by decide) (fun cc9 => absurd cc9 (nI_ge (by omega) (by decide))) (fun _ => ?_)
          refine lv_iconst (v := 0) hx hb dX1_close_166 (by decide) ?_
          refine lv_istore (lv' := [(5, .int 0), (4, .int (nI k)), (0, .ref (ad 0)), (1, .int pl), (2, .int ch), (3, .int mo)]) hx hb dX1_close_167 hl (by decide) rfl (fun ls hl => ?_)
          have lpi : ∀ (n2 q : Nat), q + n2 = 8 → ∀ (H : Heap) (locs : List Loc) (ls : Array Slot), va_P D vwCl (wM ad d O C F S (wsi (wsh (tcl O C F S pl ch mo R 8) k) k q) kn wi) H → va_D A (wM ad d O C F S (wsi (wsh (tcl O C F S pl ch mo R 8) k) k q) kn wi) → va_S A s.heap H locs → lv_has ls 10 [(5, .int (nI q)), (4, .int (nI k)), (0, .ref (ad 0)), (1, .int pl), (2, .int ch), (3, .int mo)] → W p l e { frames := 0, cells := 0, slots := 0, locals := 0 } s m ([.ref (ad 0), .int pl, .int ch, .int mo] : List Value).toArray below meth c H locs 0 0 Q (F0 m 169 ls []) := by
            intro n2
            induction n2 with
            | zero =>
              intro q hq H locs ls hP hD hS hl
              obtain rfl : q = 8 := by omega
              refine lv_iload hx hb dX1_close_169 (lv_at hl 0 rfl) ?_
              refine lv_bipush (v := nI 8) hx hb dX1_close_171 (by decide) ?_
              refine lv_icmp_ge (tgt := 220) hx hb dX1_close_173 (by decide) (fun _ => ?_) (fun cc9 => absurd (nI_le (Nat.le_refl 8) (by decide)) cc9)
              refine lv_iinc (v := nI (k + 1)) (lv' := [(4, .int (nI (k + 1))), (5, .int (nI 8)), (0, .ref (ad 0)), (1, .int pl), (2, .int ch), (3, .int mo)]) hx hb dX1_close_220 hl (k := 1) rfl (nI_i1 _) (by decide) rfl (fun ls hl => ?_)
              refine lv_goto (tgt := 159) hx hb dX1_close_223 (by decide) ?_
              exact ih (k + 1) (by omega) H locs ls hP hD hS (lv_sub hl [0, 2, 3, 4, 5] rfl)
            | succ n2 ih2 =>
              intro q hq H locs ls hP hD hS hl
              refine lv_iload hx hb dX1_close_169 (lv_at hl 0 rfl) ?_
              refine lv_bipush (v := nI 8) hx hb dX1_close_171 (by decide) ?_
              refine lv_icmp_ge (tgt := 220) hx hb dX1_close_173 (by decide) (fun cc9 => absurd cc9 (nI_ge (by omega) (by decide))) (fun _ => ?_)
              refine lv_aload_n hx hb dX1_close_176 rfl (lv_at hl 2 rfl) ?_
              refine x_g1 4 22 hx hb hown hts hK hP (by decide) q180 rfl rfl dX1_close_177 ?_
              refine lv_iload hx hb dX1_close_180 (lv_at hl 0 rfl) ?_
              refine x_ald q rfl 5 (by omega) (by decide) hx hb hK hP rfl dX1_close_182 ?_
              refine lv_iload hx hb dX1_close_183 (lv_at hl 1 rfl) ?_
              refine lv_ishr hx hb dX1_close_185 ?_
              refine lv_iconst (v := 1) hx hb dX1_close_186 (by decide) ?_
              refine lv_iand hx hb dX1_close_187 ?_
              refine lv_iconst (v := 1) hx hb dX1_close_188 (by decide) ?_
              refine lv_icmp_ne (tgt := 214) hx hb dX1_close_189 (by decide) (fun c189 => ?_) (fun c189 => ?_)
              · refine lv_iinc (v := nI (q + 1)) (lv' := [(5, .int (nI (q + 1))), (4, .int (nI k)), (0, .ref (ad 0)), (1, .int pl), (2, .int ch), (3, .int mo)]) hx hb dX1_close_214 hl (k := 0) rfl (nI_i1 _) (by decide) rfl (fun ls hl => ?_)
                refine lv_goto (tgt := 169) hx hb dX1_close_217 (by decide) ?_
                have e9 : wsi (wsh (tcl O C F S pl ch mo R 8) k) k (q + 1) = wsi (wsh (tcl O C F S pl ch mo R 8) k) k q := wsi_f (fun h => c189 ((xb_t _ (by omega)).mpr h))
                exact ih2 (q + 1) (by omega) H locs ls (by rw [e9]; exact hP) (by rw [e9]; exact hD) hS (lv_sub hl [0, 1, 2, 3, 4, 5] rfl)
              · refine lv_aload_n hx hb dX1_close_192 rfl (lv_at hl 2 rfl) ?_
                refine x_g1 4 22 hx hb hown hts hK hP (by decide) q180 rfl rfl dX1_close_193 ?_
                refine lv_iload hx hb dX1_close_196 (lv_at hl 0 rfl) ?_
                refine lv_aload_n hx hb dX1_close_198 rfl (lv_at hl 2 rfl) ?_
                refine x_g1 4 22 hx hb hown hts hK hP (by decide) q180 rfl rfl dX1_close_199 ?_
                refine lv_iload hx hb dX1_close_202 (lv_at hl 0 rfl) ?_
                refine x_ald q rfl 5 (by omega) (by decide) hx hb hK hP rfl dX1_close_204 ?_
                refine lv_aload_n hx hb dX1_close_205 rfl (lv_at hl 2 rfl) ?_
                refine x_g1 4 22 hx hb hown hts hK hP (by decide) q180 rfl rfl dX1_close_206 ?_
                refine lv_iload hx hb dX1_close_209 (lv_at hl 1 rfl) ?_
                refine x_ald k rfl 5 (by omega) (by decide) hx hb hK hP rfl dX1_close_211 ?_
                refine lv_ior hx hb dX1_close_212 ?_
                refine x_ast q rfl 5 (by omega) (by decide) hx hb hK hP hD hS rfl dX1_close_213 (fun H locs hP hD hS => ?_)
                have hP : va_P D vwCl (wM ad d O C F S (upd (wsi (wsh (tcl O C F S pl ch mo R 8) k) k q) q (((wsi (wsh (tcl O C F S pl ch mo R 8) k) k q) q) ||| ((wsi (wsh (tcl O C F S pl ch mo R 8) k) k q) k))) kn wi) H := hP
                have hD : va_D A (wM ad d O C F S (upd (wsi (wsh (tcl O C F S pl ch mo R 8) k) k q) q (((wsi (wsh (tcl O C F S pl ch mo R 8) k) k q) q) ||| ((wsi (wsh (tcl O C F S pl ch mo R 8) k) k q) k))) kn wi) := hD
                refine lv_iinc (v := nI (q + 1)) (lv' := [(5, .int (nI (q + 1))), (4, .int (nI k)), (0, .ref (ad 0)), (1, .int pl), (2, .int ch), (3, .int mo)]) hx hb dX1_close_214 hl (k := 0) rfl (nI_i1 _) (by decide) rfl (fun ls hl => ?_)
                refine lv_goto (tgt := 169) hx hb dX1_close_217 (by decide) ?_
                have e9 : wsi (wsh (tcl O C F S pl ch mo R 8) k) k (q + 1) = upd (wsi (wsh (tcl O C F S pl ch mo R 8) k) k q) q (((wsi (wsh (tcl O C F S pl ch mo R 8) k) k q) q) ||| ((wsi (wsh (tcl O C F S pl ch mo R 8) k) k q) k)) := wsi_t ((xb_t _ (by omega)).mp c189)
                exact ih2 (q + 1) (by omega) H locs ls (by rw [e9]; exact hP) (by rw [e9]; exact hD) hS (lv_sub hl [0, 1, 2, 3, 4, 5] rfl)
          exact lpi 8 0 rfl _ _ ls hP hD hS (lv_sub hl [0, 1, 2, 3, 4, 5] rfl)
      exact lp2 8 0 rfl _ _ ls hP hD hS (lv_sub hl [0, 1, 2, 3, 4] rfl)
    | succ n ih =>
      intro k hk H locs ls hP hD hS hl
      have lpq : ∀ (n2 q : Nat), q + n2 = 8 → ∀ (H : Heap) (locs : List Loc) (ls : Array Slot), va_P D vwCl (wM ad d O C F S (tcl O C F S pl ch mo R k) kn wi) H → va_D A (wM ad d O C F S (tcl O C F S pl ch mo R k) kn wi) → va_S A s.heap H locs → lv_has ls 10 [(9, .int (nI q)), (8, .int (pm (fun k => C k ≤ mo) 0 q)), (7, .int (tmv O F S pl ch k)), (4, .int (nI k)), (0, .ref (ad 0)), (1, .int pl), (2, .int ch), (3, .int mo)] → W p l e { frames := 0, cells := 0, slots := 0, locals := 0 } s m ([.ref (ad 0), .int pl, .int ch, .int mo] : List Value).toArray below meth c H locs 0 0 Q (F0 m 90 ls []) := by
        intro n2
        induction n2 with
        | zero =>
          intro q hq H locs ls hP hD hS hl
          obtain rfl : q = 8 := by omega
          refine lv_iload hx hb dX1_close_90 (lv_at hl 0 rfl) ?_
          refine lv_bipush (v := nI 8) hx hb dX1_close_92 (by decide) ?_
          refine lv_icmp_ge (tgt := 123) hx hb dX1_close_94 (by decide) (fun _ => ?_) (fun cc9 => absurd (nI_le (Nat.le_refl 8) (by decide)) cc9)
          refine lv_aload_n hx hb dX1_close_123 rfl (lv_at hl 4 rfl) ?_
          refine x_g1 4 22 hx hb hown hts hK hP (by decide) q180 rfl rfl dX1_close_124 ?_
          refine lv_iload hx hb dX1_close_127 (lv_at hl 3 rfl) ?_
          refine lv_aload_n hx hb dX1_close_129 rfl (lv_at hl 4 rfl) ?_
          refine x_g1 1 13 hx hb hown hts hK hP (by decide) q177 rfl rfl dX1_close_130 ?_
          refine lv_iload hx hb dX1_close_133 (lv_at hl 3 rfl) ?_
          refine x_ald k rfl 2 (by omega) (by decide) hx hb hK hP rfl dX1_close_135 ?_
          refine lv_iload_n hx hb dX1_close_136 rfl (lv_at hl 7 rfl) ?_
          refine lv_icmp_gt (tgt := 148) hx hb dX1_close_137 (by decide) (fun c137 => ?_) (fun c137 => ?_)
          · refine lv_iconst (v := 0) hx hb dX1_close_148 (by decide) ?_
            refine x_ast k rfl 5 (by omega) (by decide) hx hb hK hP hD hS rfl dX1_close_149 (fun H locs hP hD hS => ?_)
            have hP : va_P D vwCl (wM ad d O C F S (upd (tcl O C F S pl ch mo R k) k 0) kn wi) H := hP
            have hD : va_D A (wM ad d O C F S (upd (tcl O C F S pl ch mo R k) k 0) kn wi) := hD
            refine lv_iinc (v := nI (k + 1)) (lv' := [(4, .int (nI (k + 1))), (9, .int (nI 8)), (8, .int (pm (fun k => C k ≤ mo) 0 8)), (7, .int (tmv O F S pl ch k)), (0, .ref (ad 0)), (1, .int pl), (2, .int ch), (3, .int mo)]) hx hb dX1_close_150 hl (k := 3) rfl (nI_i1 _) (by decide) rfl (fun ls hl => ?_)
            refine lv_goto (tgt := 3) hx hb dX1_close_153 (by decide) ?_
            have e9 : tcl O C F S pl ch mo R (k + 1) = upd (tcl O C F S pl ch mo R k) k 0 := congrArg (upd (tcl O C F S pl ch mo R k) k) (if_neg (i32_lt c137))
            exact ih (k + 1) (by omega) H locs ls (by rw [e9]; exact hP) (by rw [e9]; exact hD) hS (lv_sub hl [0, 4, 5, 6, 7] rfl)
          · refine lv_iload hx hb dX1_close_140 (lv_at hl 2 rfl) ?_
            refine lv_iload hx hb dX1_close_142 (lv_at hl 1 rfl) ?_
            refine lv_iand hx hb dX1_close_144 ?_
            refine lv_goto (tgt := 149) hx hb dX1_close_145 (by decide) ?_
            refine x_ast k rfl 5 (by omega) (by decide) hx hb hK hP hD hS rfl dX1_close_149 (fun H locs hP hD hS => ?_)
            have hP : va_P D vwCl (wM ad d O C F S (upd (tcl O C F S pl ch mo R k) k ((tmv O F S pl ch k) &&& (pm (fun k => C k ≤ mo) 0 8))) kn wi) H := hP
            have hD : va_D A (wM ad d O C F S (upd (tcl O C F S pl ch mo R k) k ((tmv O F S pl ch k) &&& (pm (fun k => C k ≤ mo) 0 8))) kn wi) := hD
            refine lv_iinc (v := nI (k + 1)) (lv' := [(4, .int (nI (k + 1))), (9, .int (nI 8)), (8, .int (pm (fun k => C k ≤ mo) 0 8)), (7, .int (tmv O F S pl ch k)), (0, .ref (ad 0)), (1, .int pl), (2, .int ch), (3, .int mo)]) hx hb dX1_close_150 hl (k := 3) rfl (nI_i1 _) (by decide) rfl (fun ls hl => ?_)
            refine lv_goto (tgt := 3) hx hb dX1_close_153 (by decide) ?_
            have e9 : tcl O C F S pl ch mo R (k + 1) = upd (tcl O C F S pl ch mo R k) k ((tmv O F S pl ch k) &&& (pm (fun k => C k ≤ mo) 0 8)) := congrArg (upd (tcl O C F S pl ch mo R k) k) (if_pos (i32_nlt c137))
            exact ih (k + 1) (by omega) H locs ls (by rw [e9]; exact hP) (by rw [e9]; exact hD) hS (lv_sub hl [0, 4, 5, 6, 7] rfl)
        | succ n2 ih2 =>
          intro q hq H locs ls hP hD hS hl
          refine lv_iload hx hb dX1_close_90 (lv_at hl 0 rfl) ?_
          refine lv_bipush (v := nI 8) hx hb dX1_close_92 (by decide) ?_
          refine lv_icmp_ge (tgt := 123) hx hb dX1_close_94 (by decide) (fun cc9 => absurd cc9 (nI_ge (by omega) (by decide))) (fun _ => ?_)
          refine lv_aload_n hx hb dX1_close_97 rfl (lv_at hl 4 rfl) ?_
          refine x_g1 1 13 hx hb hown hts hK hP (by decide) q177 rfl rfl dX1_close_98 ?_
          refine lv_iload hx hb dX1_close_101 (lv_at hl 0 rfl) ?_
          refine x_ald q rfl 2 (by omega) (by decide) hx hb hK hP rfl dX1_close_103 ?_
          refine lv_iload_n hx hb dX1_close_104 rfl (lv_at hl 7 rfl) ?_
          refine lv_icmp_gt (tgt := 117) hx hb dX1_close_105 (by decide) (fun c105 => ?_) (fun c105 => ?_)
          · refine lv_iinc (v := nI (q + 1)) (lv' := [(9, .int (nI (q + 1))), (8, .int (pm (fun k => C k ≤ mo) 0 q)), (7, .int (tmv O F S pl ch k)), (4, .int (nI k)), (0, .ref (ad 0)), (1, .int pl), (2, .int ch), (3, .int mo)]) hx hb dX1_close_117 hl (k := 0) rfl (nI_i1 _) (by decide) rfl (fun ls hl => ?_)
            refine lv_goto (tgt := 90) hx hb dX1_close_120 (by decide) ?_
            have e9 : pm (fun k => C k ≤ mo) 0 (q + 1) = pm (fun k => C k ≤ mo) 0 q := pm_f (fun h => i32_le h c105)
            exact ih2 (q + 1) (by omega) H locs ls hP hD hS (by rw [e9]; exact lv_sub hl [0, 1, 2, 3, 4, 5, 6, 7] rfl)
          · refine lv_iload hx hb dX1_close_108 (lv_at hl 1 rfl) ?_
            refine lv_iconst (v := 1) hx hb dX1_close_110 (by decide) ?_
            refine lv_iload hx hb dX1_close_111 (lv_at hl 0 rfl) ?_
            refine lv_ishl hx hb dX1_close_113 ?_
            refine lv_ior hx hb dX1_close_114 ?_
            refine lv_istore (lv' := [(8, .int ((pm (fun k => C k ≤ mo) 0 q) ||| ((1 : Int32) <<< ((nI q) &&& 31)))), (9, .int (nI q)), (7, .int (tmv O F S pl ch k)), (4, .int (nI k)), (0, .ref (ad 0)), (1, .int pl), (2, .int ch), (3, .int mo)]) hx hb dX1_close_115 hl (by decide) rfl (fun ls hl => ?_)
            refine lv_iinc (v := nI (q + 1)) (lv' := [(9, .int (nI (q + 1))), (8, .int ((pm (fun k => C k ≤ mo) 0 q) ||| ((1 : Int32) <<< ((nI q) &&& 31)))), (7, .int (tmv O F S pl ch k)), (4, .int (nI k)), (0, .ref (ad 0)), (1, .int pl), (2, .int ch), (3, .int mo)]) hx hb dX1_close_117 hl (k := 1) rfl (nI_i1 _) (by decide) rfl (fun ls hl => ?_)
            refine lv_goto (tgt := 90) hx hb dX1_close_120 (by decide) ?_
            have e9 : pm (fun k => C k ≤ mo) 0 (q + 1) = (pm (fun k => C k ≤ mo) 0 q) ||| ((1 : Int32) <<< ((nI q) &&& 31)) := pm_t (i32_nlt c105)
            exact ih2 (q + 1) (by omega) H locs ls hP hD hS (by rw [e9]; exact lv_sub hl [0, 1, 2, 3, 4, 5, 6, 7] rfl)
      refine lv_iload hx hb dX1_close_3 (lv_at hl 0 rfl) ?_
      refine lv_bipush (v := nI 8) hx hb dX1_close_5 (by decide) ?_
      refine lv_icmp_ge (tgt := 156) hx hb dX1_close_7 (by decide) (fun cc9 => absurd cc9 (nI_ge (by omega) (by decide))) (fun _ => ?_)
      refine lv_iconst (v := 1) hx hb dX1_close_10 (by decide) ?_
      refine lv_aload_n hx hb dX1_close_11 rfl (lv_at hl 1 rfl) ?_
      refine x_g1 2 16 hx hb hown hts hK hP (by decide) q178 rfl rfl dX1_close_12 ?_
      refine lv_iload hx hb dX1_close_15 (lv_at hl 0 rfl) ?_
      refine x_ald k rfl 3 (by omega) (by decide) hx hb hK hP rfl dX1_close_17 ?_
      refine lv_ishl hx hb dX1_close_18 ?_
      refine lv_iconst (v := 1) hx hb dX1_close_19 (by decide) ?_
      refine lv_aload_n hx hb dX1_close_20 rfl (lv_at hl 1 rfl) ?_
      refine x_g1 3 19 hx hb hown hts hK hP (by decide) q179 rfl rfl dX1_close_21 ?_
      refine lv_iload hx hb dX1_close_24 (lv_at hl 0 rfl) ?_
      refine x_ald k rfl 4 (by omega) (by decide) hx hb hK hP rfl dX1_close_26 ?_
      refine lv_ishl hx hb dX1_close_27 ?_
      refine lv_ior hx hb dX1_close_28 ?_
      refine lv_istore (lv' := [(5, .int (((1 : Int32) <<< ((F k) &&& 31)) ||| ((1 : Int32) <<< ((S k) &&& 31)))), (4, .int (nI k)), (0, .ref (ad 0)), (1, .int pl), (2, .int ch), (3, .int mo)]) hx hb dX1_close_29 hl (by decide) rfl (fun ls hl => ?_)
      refine lv_iload_n hx hb dX1_close_31 rfl (lv_at hl 4 rfl) ?_
      refine lv_iload hx hb dX1_close_32 (lv_at hl 1 rfl) ?_
      refine lv_ishr hx hb dX1_close_34 ?_
      refine lv_iconst (v := 1) hx hb dX1_close_35 (by decide) ?_
      refine lv_iand hx hb dX1_close_36 ?_
      refine lv_iconst (v := 1) hx hb dX1_close_37 (by decide) ?_
      refine lv_icmp_ne (tgt := 53) hx hb dX1_close_38 (by decide) (fun c38 => ?_) (fun c38 => ?_)
      · refine lv_iconst (v := 1) hx hb dX1_close_53 (by decide) ?_
        refine lv_aload_n hx hb dX1_close_54 rfl (lv_at hl 2 rfl) ?_
        refine x_g1 2 16 hx hb hown hts hK hP (by decide) q178 rfl rfl dX1_close_55 ?_
        refine lv_iload hx hb dX1_close_58 (lv_at hl 1 rfl) ?_
        refine x_ald k rfl 3 (by omega) (by decide) hx hb hK hP rfl dX1_close_60 ?_
        refine lv_ishl hx hb dX1_close_61 ?_
        refine lv_istore (lv' := [(6, .int ((1 : Int32) <<< ((F k) &&& 31))), (5, .int (((1 : Int32) <<< ((F k) &&& 31)) ||| ((1 : Int32) <<< ((S k) &&& 31)))), (4, .int (nI k)), (0, .ref (ad 0)), (1, .int pl), (2, .int ch), (3, .int mo)]) hx hb dX1_close_62 hl (by decide) rfl (fun ls hl => ?_)
        refine lv_aload_n hx hb dX1_close_64 rfl (lv_at hl 3 rfl) ?_
        refine x_g1 0 7 hx hb hown hts hK hP (by decide) q176 rfl rfl dX1_close_65 ?_
        refine lv_iload hx hb dX1_close_68 (lv_at hl 2 rfl) ?_
        refine x_ald k rfl 1 (by omega) (by decide) hx hb hK hP rfl dX1_close_70 ?_
        refine lv_iload_n hx hb dX1_close_71 rfl (lv_at hl 4 rfl) ?_
        refine lv_icmp_ne (tgt := 80) hx hb dX1_close_72 (by decide) (fun c72 => ?_) (fun c72 => ?_)
        · refine lv_iload hx hb dX1_close_80 (lv_at hl 1 rfl) ?_
          refine lv_istore (lv' := [(7, .int (((1 : Int32) <<< ((F k) &&& 31)) ||| ((1 : Int32) <<< ((S k) &&& 31)))), (6, .int ((1 : Int32) <<< ((F k) &&& 31))), (5, .int (((1 : Int32) <<< ((F k) &&& 31)) ||| ((1 : Int32) <<< ((S k) &&& 31)))), (4, .int (nI k)), (0, .ref (ad 0)), (1, .int pl), (2, .int ch), (3, .int mo)]) hx hb dX1_close_82 hl (by decide) rfl (fun ls hl => ?_)
          refine lv_iconst (v := 0) hx hb dX1_close_84 (by decide) ?_
          refine lv_istore (lv' := [(8, .int 0), (7, .int (((1 : Int32) <<< ((F k) &&& 31)) ||| ((1 : Int32) <<< ((S k) &&& 31)))), (6, .int ((1 : Int32) <<< ((F k) &&& 31))), (5, .int (((1 : Int32) <<< ((F k) &&& 31)) ||| ((1 : Int32) <<< ((S k) &&& 31)))), (4, .int (nI k)), (0, .ref (ad 0)), (1, .int pl), (2, .int ch), (3, .int mo)]) hx hb dX1_close_85 hl (by decide) rfl (fun ls hl => ?_)
          refine lv_iconst (v := 0) hx hb dX1_close_87 (by decide) ?_
          refine lv_istore (lv' := [(9, .int 0), (8, .int 0), (7, .int (((1 : Int32) <<< ((F k) &&& 31)) ||| ((1 : Int32) <<< ((S k) &&& 31)))), (6, .int ((1 : Int32) <<< ((F k) &&& 31))), (5, .int (((1 : Int32) <<< ((F k) &&& 31)) ||| ((1 : Int32) <<< ((S k) &&& 31)))), (4, .int (nI k)), (0, .ref (ad 0)), (1, .int pl), (2, .int ch), (3, .int mo)]) hx hb dX1_close_88 hl (by decide) rfl (fun ls hl => ?_)
          have e7 : tmv O F S pl ch k = ((1 : Int32) <<< ((F k) &&& 31)) ||| ((1 : Int32) <<< ((S k) &&& 31)) := if_neg c72
          exact lpq 8 0 rfl _ _ ls hP hD hS (by rw [e7]; exact lv_sub hl [0, 1, 2, 5, 6, 7, 8, 9] rfl)
        · refine lv_iload hx hb dX1_close_75 (lv_at hl 0 rfl) ?_
          refine lv_goto (tgt := 82) hx hb dX1_close_77 (by decide) ?_
          refine lv_istore (lv' := [(7, .int ((1 : Int32) <<< ((F k) &&& 31))), (6, .int ((1 : Int32) <<< ((F k) &&& 31))), (5, .int (((1 : Int32) <<< ((F k) &&& 31)) ||| ((1 : Int32) <<< ((S k) &&& 31)))), (4, .int (nI k)), (0, .ref (ad 0)), (1, .int pl), (2, .int ch), (3, .int mo)]) hx hb dX1_close_82 hl (by decide) rfl (fun ls hl => ?_)
          refine lv_iconst (v := 0) hx hb dX1_close_84 (by decide) ?_
          refine lv_istore (lv' := [(8, .int 0), (7, .int ((1 : Int32) <<< ((F k) &&& 31))), (6, .int ((1 : Int32) <<< ((F k) &&& 31))), (5, .int (((1 : Int32) <<< ((F k) &&& 31)) ||| ((1 : Int32) <<< ((S k) &&& 31)))), (4, .int (nI k)), (0, .ref (ad 0)), (1, .int pl), (2, .int ch), (3, .int mo)]) hx hb dX1_close_85 hl (by decide) rfl (fun ls hl => ?_)
          refine lv_iconst (v := 0) hx hb dX1_close_87 (by decide) ?_
          refine lv_istore (lv' := [(9, .int 0), (8, .int 0), (7, .int ((1 : Int32) <<< ((F k) &&& 31))), (6, .int ((1 : Int32) <<< ((F k) &&& 31))), (5, .int (((1 : Int32) <<< ((F k) &&& 31)) ||| ((1 : Int32) <<< ((S k) &&& 31)))), (4, .int (nI k)), (0, .ref (ad 0)), (1, .int pl), (2, .int ch), (3, .int mo)]) hx hb dX1_close_88 hl (by decide) rfl (fun ls hl => ?_)
          have e7 : tmv O F S pl ch k = (1 : Int32) <<< ((F k) &&& 31) := (if_pos c72).trans (if_neg (fun h => c38 ((xb_t _ (by omega)).mpr h)))
          exact lpq 8 0 rfl _ _ ls hP hD hS (by rw [e7]; exact lv_sub hl [0, 1, 2, 5, 6, 7, 8, 9] rfl)
      · refine lv_iconst (v := 1) hx hb dX1_close_41 (by decide) ?_
        refine lv_aload_n hx hb dX1_close_42 rfl (lv_at hl 2 rfl) ?_
        refine x_g1 3 19 hx hb hown hts hK hP (by decide) q179 rfl rfl dX1_close_43 ?_
        refine lv_iload hx hb dX1_close_46 (lv_at hl 1 rfl) ?_
        refine x_ald k rfl 4 (by omega) (by decide) hx hb hK hP rfl dX1_close_48 ?_
        refine lv_ishl hx hb dX1_close_49 ?_
        refine lv_goto (tgt := 62) hx hb dX1_close_50 (by decide) ?_
        refine lv_istore (lv' := [(6, .int ((1 : Int32) <<< ((S k) &&& 31))), (5, .int (((1 : Int32) <<< ((F k) &&& 31)) ||| ((1 : Int32) <<< ((S k) &&& 31)))), (4, .int (nI k)), (0, .ref (ad 0)), (1, .int pl), (2, .int ch), (3, .int mo)]) hx hb dX1_close_62 hl (by decide) rfl (fun ls hl => ?_)
        refine lv_aload_n hx hb dX1_close_64 rfl (lv_at hl 3 rfl) ?_
        refine x_g1 0 7 hx hb hown hts hK hP (by decide) q176 rfl rfl dX1_close_65 ?_
        refine lv_iload hx hb dX1_close_68 (lv_at hl 2 rfl) ?_
        refine x_ald k rfl 1 (by omega) (by decide) hx hb hK hP rfl dX1_close_70 ?_
        refine lv_iload_n hx hb dX1_close_71 rfl (lv_at hl 4 rfl) ?_
        refine lv_icmp_ne (tgt := 80) hx hb dX1_close_72 (by decide) (fun c72 => ?_) (fun c72 => ?_)
        · refine lv_iload hx hb dX1_close_80 (lv_at hl 1 rfl) ?_
          refine lv_istore (lv' := [(7, .int (((1 : Int32) <<< ((F k) &&& 31)) ||| ((1 : Int32) <<< ((S k) &&& 31)))), (6, .int ((1 : Int32) <<< ((S k) &&& 31))), (5, .int (((1 : Int32) <<< ((F k) &&& 31)) ||| ((1 : Int32) <<< ((S k) &&& 31)))), (4, .int (nI k)), (0, .ref (ad 0)), (1, .int pl), (2, .int ch), (3, .int mo)]) hx hb dX1_close_82 hl (by decide) rfl (fun ls hl => ?_)
          refine lv_iconst (v := 0) hx hb dX1_close_84 (by decide) ?_
          refine lv_istore (lv' := [(8, .int 0), (7, .int (((1 : Int32) <<< ((F k) &&& 31)) ||| ((1 : Int32) <<< ((S k) &&& 31)))), (6, .int ((1 : Int32) <<< ((S k) &&& 31))), (5, .int (((1 : Int32) <<< ((F k) &&& 31)) ||| ((1 : Int32) <<< ((S k) &&& 31)))), (4, .int (nI k)), (0, .ref (ad 0)), (1, .int pl), (2, .int ch), (3, .int mo)]) hx hb dX1_close_85 hl (by decide) rfl (fun ls hl => ?_)
          refine lv_iconst (v := 0) hx hb dX1_close_87 (by decide) ?_
          refine lv_istore (lv' := [(9, .int 0), (8, .int 0), (7, .int (((1 : Int32) <<< ((F k) &&& 31)) ||| ((1 : Int32) <<< ((S k) &&& 31)))), (6, .int ((1 : Int32) <<< ((S k) &&& 31))), (5, .int (((1 : Int32) <<< ((F k) &&& 31)) ||| ((1 : Int32) <<< ((S k) &&& 31)))), (4, .int (nI k)), (0, .ref (ad 0)), (1, .int pl), (2, .int ch), (3, .int mo)]) hx hb dX1_close_88 hl (by decide) rfl (fun ls hl => ?_)
          have e7 : tmv O F S pl ch k = ((1 : Int32) <<< ((F k) &&& 31)) ||| ((1 : Int32) <<< ((S k) &&& 31)) := if_neg c72
          exact lpq 8 0 rfl _ _ ls hP hD hS (by rw [e7]; exact lv_sub hl [0, 1, 2, 5, 6, 7, 8, 9] rfl)
        · refine lv_iload hx hb dX1_close_75 (lv_at hl 0 rfl) ?_
          refine lv_goto (tgt := 82) hx hb dX1_close_77 (by decide) ?_
          refine lv_istore (lv' := [(7, .int ((1 : Int32) <<< ((S k) &&& 31))), (6, .int ((1 : Int32) <<< ((S k) &&& 31))), (5, .int (((1 : Int32) <<< ((F k) &&& 31)) ||| ((1 : Int32) <<< ((S k) &&& 31)))), (4, .int (nI k)), (0, .ref (ad 0)), (1, .int pl), (2, .int ch), (3, .int mo)]) hx hb dX1_close_82 hl (by decide) rfl (fun ls hl => ?_)
          refine lv_iconst (v := 0) hx hb dX1_close_84 (by decide) ?_
          refine lv_istore (lv' := [(8, .int 0), (7, .int ((1 : Int32) <<< ((S k) &&& 31))), (6, .int ((1 : Int32) <<< ((S k) &&& 31))), (5, .int (((1 : Int32) <<< ((F k) &&& 31)) ||| ((1 : Int32) <<< ((S k) &&& 31)))), (4, .int (nI k)), (0, .ref (ad 0)), (1, .int pl), (2, .int ch), (3, .int mo)]) hx hb dX1_close_85 hl (by decide) rfl (fun ls hl => ?_)
          refine lv_iconst (v := 0) hx hb dX1_close_87 (by decide) ?_
          refine lv_istore (lv' := [(9, .int 0), (8, .int 0), (7, .int ((1 : Int32) <<< ((S k) &&& 31))), (6, .int ((1 : Int32) <<< ((S k) &&& 31))), (5, .int (((1 : Int32) <<< ((F k) &&& 31)) ||| ((1 : Int32) <<< ((S k) &&& 31)))), (4, .int (nI k)), (0, .ref (ad 0)), (1, .int pl), (2, .int ch), (3, .int mo)]) hx hb dX1_close_88 hl (by decide) rfl (fun ls hl => ?_)
          have e7 : tmv O F S pl ch k = (1 : Int32) <<< ((S k) &&& 31) := (if_pos c72).trans (if_pos ((xb_t _ (by omega)).mp c38))
          exact lpq 8 0 rfl _ _ ls hP hD hS (by rw [e7]; exact lv_sub hl [0, 1, 2, 5, 6, 7, 8, 9] rfl)
  exact lp1 8 0 rfl _ _ ls hP hD hS (lv_sub hl [0, 1, 2, 3, 4] rfl)
set_option maxHeartbeats 4000000 in
set_option maxRecDepth 100000 in
theorem m1_plan (l : Launch) (D : va_G) (ad : Nat → Nat) (d : ClassId) (kn wi : Int32) (O C F S R : Nat → Int32) (own col f1 f2 : Nat → Nat) (hg : tv own col f1 f2 O C F S) (i : Nat) (hi : i ≤ 1) (ch : Int32) : CI l yX1_plan cX1_plan 6 (some .int) 1 29 D d [.ref (ad 0), .int (nI i), .int ch] (wM ad d O C F S R kn wi) (fun r (_ : Nat → Int32) => ∀ p, bt r p = true ↔ (p < 8 ∧ pg_win own col f1 f2 i (bt ch) p)) (fun (u : Nat → Int32) => wM ad d O C F S u kn wi) := by
  refine CI_of (by decide) (Nat.le_of_ble_eq_true rfl) (fun p e s m0 below meth c A Q ls E hret => ?_)
  obtain ⟨hx, hb, hml, hown, hts, hA, hK, hP, hD, hS, hl⟩ := E
  have hown : s.vm.findClass RX1 = some m0.cls := hown
  have hl : lv_has ls 6 [(0, .ref (ad 0)), (1, .int (nI i)), (2, .int ch)] := hl
  have hcol : ∀ p, p < 8 → C p = nI (col p) := fun p hp => (hg.2 p hp).2.1
  refine lv_iconst (v := 0) hx hb dX1_plan_0 (by decide) ?_
  refine lv_istore_n (lv' := [(3, .int 0), (0, .ref (ad 0)), (1, .int (nI i)), (2, .int ch)]) hx hb dX1_plan_1 rfl hl (by decide) rfl (fun ls hl => ?_)
  refine lv_iconst (v := 1) hx hb dX1_plan_2 (by decide) ?_
  refine lv_iload_n hx hb dX1_plan_3 rfl (lv_at hl 2 rfl) ?_
  refine lv_isub hx hb dX1_plan_4 ?_
  rw [i1_sub hi]
  refine lv_istore (lv' := [(4, .int (nI (1 - i + 2 * 0))), (3, .int 0), (0, .ref (ad 0)), (1, .int (nI i)), (2, .int ch)]) hx hb dX1_plan_5 hl (by decide) rfl (fun ls hl => ?_)
  have lpo : ∀ (n m : Nat) (x : Int32) (R : Nat → Int32), m + n = 3 → bcs own col f1 f2 i ch m x → ∀ (H : Heap) (locs : List Loc) (ls : Array Slot), va_P D vwCl (wM ad d O C F S R kn wi) H → va_D A (wM ad d O C F S R kn wi) → va_S A s.heap H locs → lv_has ls 6 [(4, .int (nI (1 - i + 2 * m))), (3, .int x), (0, .ref (ad 0)), (1, .int (nI i)), (2, .int ch)] → W p l e { frames := 1, cells := 0, slots := 0, locals := 29 } s m0 ([.ref (ad 0), .int (nI i), .int ch] : List Value).toArray below meth c H locs 0 0 Q (F0 m0 7 ls []) := by
    intro n
    induction n with
    | zero =>
      intro m x R hm hbc H locs ls hP hD hS hl
      obtain rfl : m = 3 := by omega
      refine lv_iload hx hb dX1_plan_7 (lv_at hl 0 rfl) ?_
      refine lv_bipush (v := nI 6) hx hb dX1_plan_9 (by decide) ?_
      refine lv_icmp_ge (tgt := 82) hx hb dX1_plan_11 (by decide) (fun _ => ?_) (fun cc9 => absurd (nI_le (by omega) (by omega)) cc9)
      refine lv_aload_n hx hb dX1_plan_82 rfl (lv_at hl 2 rfl) ?_
      refine lv_iload_n hx hb dX1_plan_83 rfl (lv_at hl 3 rfl) ?_
      refine lv_iload_n hx hb dX1_plan_84 rfl (lv_at hl 4 rfl) ?_
      refine lv_iconst (v := nI 5) hx hb dX1_plan_85 (by decide) ?_
      refine x_vv [.int (nI i), .int ch, .int (nI 5)] [] 3 (m1_close l D ad d kn wi O C F S R (nI i) ch (nI 5)) hx hb hml hown hts hA hK hP hD hS (lw_V q238 q240 qs19 q22 q241) (by decide +kernel) rfl ⟨Nat.le_of_ble_eq_true rfl, Nat.le_of_ble_eq_true rfl⟩ rfl rfl rfl rfl hl.1 (Nat.le_of_ble_eq_true rfl) ⟨Nat.zero_le _, Nat.zero_le _⟩ dX1_plan_86 (fun u H locs hw hP hD hS => ?_)
      have hP : va_P D vwCl (wM ad d O C F S (wsh (tcl O C F S (nI i) ch (nI 5) R 8) 8) kn wi) H := hP
      have hD : va_D A (wM ad d O C F S (wsh (tcl O C F S (nI i) ch (nI 5) R 8) 8) kn wi) := hD
      have hrc := tcl_rch hg hi (c := 5) (by omega) ch R
      generalize wsh (tcl O C F S (nI i) ch (nI 5) R 8) 8 = R2 at hP hD hrc
      refine lv_iconst (v := 0) hx hb dX1_plan_89 (by decide) ?_
      refine lv_istore (lv' := [(4, .int 0), (3, .int x), (0, .ref (ad 0)), (1, .int (nI i)), (2, .int ch)]) hx hb dX1_plan_90 hl (by decide) rfl (fun ls hl => ?_)
      refine lv_iconst (v := 0) hx hb dX1_plan_92 (by decide) ?_
      refine lv_istore (lv' := [(5, .int 0), (4, .int 0), (3, .int x), (0, .ref (ad 0)), (1, .int (nI i)), (2, .int ch)]) hx hb dX1_plan_93 hl (by decide) rfl (fun ls hl => ?_)
      have lpw : ∀ (n2 q : Nat), q + n2 = 8 → ∀ (H : Heap) (locs : List Loc) (ls : Array Slot), va_P D vwCl (wM ad d O C F S R2 kn wi) H → va_D A (wM ad d O C F S R2 kn wi) → va_S A s.heap H locs → lv_has ls 6 [(5, .int (nI q)), (4, .int (pm (fun k => ¬ bt x k = true ∧ R2 k &&& x = 0) 0 q)), (3, .int x), (0, .ref (ad 0)), (1, .int (nI i)), (2, .int ch)] → W p l e { frames := 1, cells := 0, slots := 0, locals := 29 } s m0 ([.ref (ad 0), .int (nI i), .int ch] : List Value).toArray below meth c H locs 0 0 Q (F0 m0 95 ls []) := by
        intro n2
        induction n2 with
        | zero =>
          intro q hq H locs ls hP hD hS hl
          obtain rfl : q = 8 := by omega
          refine lv_iload hx hb dX1_plan_95 (lv_at hl 0 rfl) ?_
          refine lv_bipush (v := nI 8) hx hb dX1_plan_97 (by decide) ?_
          refine lv_icmp_ge (tgt := 138) hx hb dX1_plan_99 (by decide) (fun _ => ?_) (fun cc9 => absurd (nI_le (Nat.le_refl 8) (by decide)) cc9)
          refine lv_iload hx hb dX1_plan_138 (lv_at hl 1 rfl) ?_
          exact hret _ _ _ _ _ R2 dX1_plan_140 (plan_bits (bcs_bad hi hbc) hg.1 hrc) hP hD hS
        | succ n2 ih2 =>
          intro q hq H locs ls hP hD hS hl
          refine lv_iload hx hb dX1_plan_95 (lv_at hl 0 rfl) ?_
          refine lv_bipush (v := nI 8) hx hb dX1_plan_97 (by decide) ?_
          refine lv_icmp_ge (tgt := 138) hx hb dX1_plan_99 (by decide) (fun cc9 => absurd cc9 (nI_ge (by omega) (by decide))) (fun _ => ?_)
          refine lv_iload_n hx hb dX1_plan_102 rfl (lv_at hl 2 rfl) ?_
          refine lv_iload hx hb dX1_plan_103 (lv_at hl 0 rfl) ?_
          refine lv_ishr hx hb dX1_plan_105 ?_
          refine lv_iconst (v := 1) hx hb dX1_plan_106 (by decide) ?_
          refine lv_iand hx hb dX1_plan_107 ?_
          refine lv_if_ne (tgt := 132) hx hb dX1_plan_108 (by decide) (fun c108 => ?_) (fun c108 => ?_)
          · refine lv_iinc (v := nI (q + 1)) (lv' := [(5, .int (nI (q + 1))), (4, .int (pm (fun k => ¬ bt x k = true ∧ R2 k &&& x = 0) 0 q)), (3, .int x), (0, .ref (ad 0)), (1, .int (nI i)), (2, .int ch)]) hx hb dX1_plan_132 hl (k := 0) rfl (nI_i1 _) (by decide) rfl (fun ls hl => ?_)
            refine lv_goto (tgt := 95) hx hb dX1_plan_135 (by decide) ?_
            have e9 : pm (fun k => ¬ bt x k = true ∧ R2 k &&& x = 0) 0 (q + 1) = pm (fun k => ¬ bt x k = true ∧ R2 k &&& x = 0) 0 q := pm_f (fun h => c108 ((xb_f _ (by omega)).mpr h.1))
            exact ih2 (q + 1) (by omega) H locs ls hP hD hS (by rw [e9]; exact lv_sub hl [0, 1, 2, 3, 4, 5] rfl)
          · refine lv_aload_n hx hb dX1_plan_111 rfl (lv_at hl 3 rfl) ?_
            refine x_g1 4 22 hx hb hown hts hK hP (by decide) q180 rfl rfl dX1_plan_112 ?_
            refine lv_iload hx hb dX1_plan_115 (lv_at hl 0 rfl) ?_
            refine x_ald q rfl 5 (by omega) (by decide) hx hb hK hP rfl dX1_plan_117 ?_
            refine lv_iload_n hx hb dX1_plan_118 rfl (lv_at hl 2 rfl) ?_
            refine lv_iand hx hb dX1_plan_119 ?_
            refine lv_if_ne (tgt := 132) hx hb dX1_plan_120 (by decide) (fun c120 => ?_) (fun c120 => ?_)
            · refine lv_iinc (v := nI (q + 1)) (lv' := [(5, .int (nI (q + 1))), (4, .int (pm (fun k => ¬ bt x k = true ∧ R2 k &&& x = 0) 0 q)), (3, .int x), (0, .ref (ad 0)), (1, .int (nI i)), (2, .int ch)]) hx hb dX1_plan_132 hl (k := 0) rfl (nI_i1 _) (by decide) rfl (fun ls hl => ?_)
              refine lv_goto (tgt := 95) hx hb dX1_plan_135 (by decide) ?_
              have e9 : pm (fun k => ¬ bt x k = true ∧ R2 k &&& x = 0) 0 (q + 1) = pm (fun k => ¬ bt x k = true ∧ R2 k &&& x = 0) 0 q := pm_f (fun h => c120 h.2)
              exact ih2 (q + 1) (by omega) H locs ls hP hD hS (by rw [e9]; exact lv_sub hl [0, 1, 2, 3, 4, 5] rfl)
            · refine lv_iload hx hb dX1_plan_123 (lv_at hl 1 rfl) ?_
              refine lv_iconst (v := 1) hx hb dX1_plan_125 (by decide) ?_
              refine lv_iload hx hb dX1_plan_126 (lv_at hl 0 rfl) ?_
              refine lv_ishl hx hb dX1_plan_128 ?_
              refine lv_ior hx hb dX1_plan_129 ?_
              refine lv_istore (lv' := [(4, .int ((pm (fun k => ¬ bt x k = true ∧ R2 k &&& x = 0) 0 q) ||| ((1 : Int32) <<< ((nI q) &&& 31)))), (5, .int (nI q)), (3, .int x), (0, .ref (ad 0)), (1, .int (nI i)), (2, .int ch)]) hx hb dX1_plan_130 hl (by decide) rfl (fun ls hl => ?_)
              refine lv_iinc (v := nI (q + 1)) (lv' := [(5, .int (nI (q + 1))), (4, .int ((pm (fun k => ¬ bt x k = true ∧ R2 k &&& x = 0) 0 q) ||| ((1 : Int32) <<< ((nI q) &&& 31)))), (3, .int x), (0, .ref (ad 0)), (1, .int (nI i)), (2, .int ch)]) hx hb dX1_plan_132 hl (k := 1) rfl (nI_i1 _) (by decide) rfl (fun ls hl => ?_)
              refine lv_goto (tgt := 95) hx hb dX1_plan_135 (by decide) ?_
              have e9 : pm (fun k => ¬ bt x k = true ∧ R2 k &&& x = 0) 0 (q + 1) = (pm (fun k => ¬ bt x k = true ∧ R2 k &&& x = 0) 0 q) ||| ((1 : Int32) <<< ((nI q) &&& 31)) := pm_t ⟨(xb_f _ (by omega)).mp c108, c120⟩
              exact ih2 (q + 1) (by omega) H locs ls hP hD hS (by rw [e9]; exact lv_sub hl [0, 1, 2, 3, 4, 5] rfl)
      exact lpw 8 0 rfl _ _ ls hP hD hS (lv_sub hl [0, 1, 2, 3, 4, 5] rfl)
    | succ n ih =>
      intro m x R hm hbc H locs ls hP hD hS hl
      refine lv_iload hx hb dX1_plan_7 (lv_at hl 0 rfl) ?_
      refine lv_bipush (v := nI 6) hx hb dX1_plan_9 (by decide) ?_
      refine lv_icmp_ge (tgt := 82) hx hb dX1_plan_11 (by decide) (fun cc9 => absurd cc9 (nI_ge (by omega) (by omega))) (fun _ => ?_)
      refine lv_aload_n hx hb dX1_plan_14 rfl (lv_at hl 2 rfl) ?_
      refine lv_iload_n hx hb dX1_plan_15 rfl (lv_at hl 3 rfl) ?_
      refine lv_iload_n hx hb dX1_plan_16 rfl (lv_at hl 4 rfl) ?_
      refine lv_iload hx hb dX1_plan_17 (lv_at hl 0 rfl) ?_
      refine x_vv [.int (nI i), .int ch, .int (nI (1 - i + 2 * m))] [] 3 (m1_close l D ad d kn wi O C F S R (nI i) ch (nI (1 - i + 2 * m))) hx hb hml hown hts hA hK hP hD hS (lw_V q238 q240 qs19 q22 q241) (by decide +kernel) rfl ⟨Nat.le_of_ble_eq_true rfl, Nat.le_of_ble_eq_true rfl⟩ rfl rfl rfl rfl hl.1 (Nat.le_of_ble_eq_true rfl) ⟨Nat.zero_le _, Nat.zero_le _⟩ dX1_plan_19 (fun u H locs hw hP hD hS => ?_)
      have hP : va_P D vwCl (wM ad d O C F S (wsh (tcl O C F S (nI i) ch (nI (1 - i + 2 * m)) R 8) 8) kn wi) H := hP
      have hD : va_D A (wM ad d O C F S (wsh (tcl O C F S (nI i) ch (nI (1 - i + 2 * m)) R 8) 8) kn wi) := hD
      have hrc := tcl_rch hg hi (c := 1 - i + 2 * m) (by omega) ch R
      generalize wsh (tcl O C F S (nI i) ch (nI (1 - i + 2 * m)) R 8) 8 = R2 at hP hD hrc
      refine lv_iconst (v := 0) hx hb dX1_plan_22 (by decide) ?_
      refine lv_istore (lv' := [(5, .int 0), (4, .int (nI (1 - i + 2 * m))), (3, .int x), (0, .ref (ad 0)), (1, .int (nI i)), (2, .int ch)]) hx hb dX1_plan_23 hl (by decide) rfl (fun ls hl => ?_)
      have lpi : ∀ (n2 q : Nat), q + n2 = 8 → ∀ (H : Heap) (locs : List Loc) (ls : Array Slot), va_P D vwCl (wM ad d O C F S R2 kn wi) H → va_D A (wM ad d O C F S R2 kn wi) → va_S A s.heap H locs → lv_has ls 6 [(5, .int (nI q)), (3, .int (pm (fun k => C k = nI (1 - i + 2 * m) ∧ bt (R2 k) k = true) x q)), (4, .int (nI (1 - i + 2 * m))), (0, .ref (ad 0)), (1, .int (nI i)), (2, .int ch)] → W p l e { frames := 1, cells := 0, slots := 0, locals := 29 } s m0 ([.ref (ad 0), .int (nI i), .int ch] : List Value).toArray below meth c H locs 0 0 Q (F0 m0 25 ls []) := by
        intro n2
        induction n2 with
        | zero =>
          intro q hq H locs ls hP hD hS hl
          obtain rfl : q = 8 := by omega
          refine lv_iload hx hb dX1_plan_25 (lv_at hl 0 rfl) ?_
          refine lv_bipush (v := nI 8) hx hb dX1_plan_27 (by decide) ?_
          refine lv_icmp_ge (tgt := 73) hx hb dX1_plan_29 (by decide) (fun _ => ?_) (fun cc9 => absurd (nI_le (Nat.le_refl 8) (by decide)) cc9)
          refine lv_iload hx hb dX1_plan_73 (lv_at hl 2 rfl) ?_
          refine lv_iconst (v := 2) hx hb dX1_plan_75 (by decide) ?_
          refine lv_iadd hx hb dX1_plan_76 ?_
          rw [nI_p2, show 1 - i + 2 * m + 2 = 1 - i + 2 * (m + 1) by omega]
          refine lv_istore (lv' := [(4, .int (nI (1 - i + 2 * (m + 1)))), (5, .int (nI 8)), (3, .int (pm (fun k => C k = nI (1 - i + 2 * m) ∧ bt (R2 k) k = true) x 8)), (0, .ref (ad 0)), (1, .int (nI i)), (2, .int ch)]) hx hb dX1_plan_77 hl (by decide) rfl (fun ls hl => ?_)
          refine lv_goto (tgt := 7) hx hb dX1_plan_79 (by decide) ?_
          exact ih (m + 1) _ R2 (by omega) (bcs_s hi (by omega) hcol hg.1 hbc hrc) H locs ls hP hD hS (lv_sub hl [0, 2, 3, 4, 5] rfl)
        | succ n2 ih2 =>
          intro q hq H locs ls hP hD hS hl
          refine lv_iload hx hb dX1_plan_25 (lv_at hl 0 rfl) ?_
          refine lv_bipush (v := nI 8) hx hb dX1_plan_27 (by decide) ?_
          refine lv_icmp_ge (tgt := 73) hx hb dX1_plan_29 (by decide) (fun cc9 => absurd cc9 (nI_ge (by omega) (by decide))) (fun _ => ?_)
          refine lv_aload_n hx hb dX1_plan_32 rfl (lv_at hl 3 rfl) ?_
          refine x_g1 1 13 hx hb hown hts hK hP (by decide) q177 rfl rfl dX1_plan_33 ?_
          refine lv_iload hx hb dX1_plan_36 (lv_at hl 0 rfl) ?_
          refine x_ald q rfl 2 (by omega) (by decide) hx hb hK hP rfl dX1_plan_38 ?_
          refine lv_iload hx hb dX1_plan_39 (lv_at hl 2 rfl) ?_
          refine lv_icmp_ne (tgt := 67) hx hb dX1_plan_41 (by decide) (fun c41 => ?_) (fun c41 => ?_)
          · refine lv_iinc (v := nI (q + 1)) (lv' := [(5, .int (nI (q + 1))), (3, .int (pm (fun k => C k = nI (1 - i + 2 * m) ∧ bt (R2 k) k = true) x q)), (4, .int (nI (1 - i + 2 * m))), (0, .ref (ad 0)), (1, .int (nI i)), (2, .int ch)]) hx hb dX1_plan_67 hl (k := 0) rfl (nI_i1 _) (by decide) rfl (fun ls hl => ?_)
            refine lv_goto (tgt := 25) hx hb dX1_plan_70 (by decide) ?_
            have e9 : pm (fun k => C k = nI (1 - i + 2 * m) ∧ bt (R2 k) k = true) x (q + 1) = pm (fun k => C k = nI (1 - i + 2 * m) ∧ bt (R2 k) k = true) x q := pm_f (fun h => c41 h.1)
            exact ih2 (q + 1) (by omega) H locs ls hP hD hS (by rw [e9]; exact lv_sub hl [0, 1, 2, 3, 4, 5] rfl)
          · refine lv_aload_n hx hb dX1_plan_44 rfl (lv_at hl 3 rfl) ?_
            refine x_g1 4 22 hx hb hown hts hK hP (by decide) q180 rfl rfl dX1_plan_45 ?_
            refine lv_iload hx hb dX1_plan_48 (lv_at hl 0 rfl) ?_
            refine x_ald q rfl 5 (by omega) (by decide) hx hb hK hP rfl dX1_plan_50 ?_
            refine lv_iload hx hb dX1_plan_51 (lv_at hl 0 rfl) ?_
            refine lv_ishr hx hb dX1_plan_53 ?_
            refine lv_iconst (v := 1) hx hb dX1_plan_54 (by decide) ?_
            refine lv_iand hx hb dX1_plan_55 ?_
            refine lv_iconst (v := 1) hx hb dX1_plan_56 (by decide) ?_
            refine lv_icmp_ne (tgt := 67) hx hb dX1_plan_57 (by decide) (fun c57 => ?_) (fun c57 => ?_)
            · refine lv_iinc (v := nI (q + 1)) (lv' := [(5, .int (nI (q + 1))), (3, .int (pm (fun k => C k = nI (1 - i + 2 * m) ∧ bt (R2 k) k = true) x q)), (4, .int (nI (1 - i + 2 * m))), (0, .ref (ad 0)), (1, .int (nI i)), (2, .int ch)]) hx hb dX1_plan_67 hl (k := 0) rfl (nI_i1 _) (by decide) rfl (fun ls hl => ?_)
              refine lv_goto (tgt := 25) hx hb dX1_plan_70 (by decide) ?_
              have e9 : pm (fun k => C k = nI (1 - i + 2 * m) ∧ bt (R2 k) k = true) x (q + 1) = pm (fun k => C k = nI (1 - i + 2 * m) ∧ bt (R2 k) k = true) x q := pm_f (fun h => c57 ((xb_t _ (by omega)).mpr h.2))
              exact ih2 (q + 1) (by omega) H locs ls hP hD hS (by rw [e9]; exact lv_sub hl [0, 1, 2, 3, 4, 5] rfl)
            · refine lv_iload_n hx hb dX1_plan_60 rfl (lv_at hl 1 rfl) ?_
              refine lv_iconst (v := 1) hx hb dX1_plan_61 (by decide) ?_
              refine lv_iload hx hb dX1_plan_62 (lv_at hl 0 rfl) ?_
              refine lv_ishl hx hb dX1_plan_64 ?_
              refine lv_ior hx hb dX1_plan_65 ?_
              refine lv_istore_n (lv' := [(3, .int ((pm (fun k => C k = nI (1 - i + 2 * m) ∧ bt (R2 k) k = true) x q) ||| ((1 : Int32) <<< ((nI q) &&& 31)))), (5, .int (nI q)), (4, .int (nI (1 - i + 2 * m))), (0, .ref (ad 0)), (1, .int (nI i)), (2, .int ch)]) hx hb dX1_plan_66 rfl hl (by decide) rfl (fun ls hl => ?_)
              refine lv_iinc (v := nI (q + 1)) (lv' := [(5, .int (nI (q + 1))), (3, .int ((pm (fun k => C k = nI (1 - i + 2 * m) ∧ bt (R2 k) k = true) x q) ||| ((1 : Int32) <<< ((nI q) &&& 31)))), (4, .int (nI (1 - i + 2 * m))), (0, .ref (ad 0)), (1, .int (nI i)), (2, .int ch)]) hx hb dX1_plan_67 hl (k := 1) rfl (nI_i1 _) (by decide) rfl (fun ls hl => ?_)
              refine lv_goto (tgt := 25) hx hb dX1_plan_70 (by decide) ?_
              have e9 : pm (fun k => C k = nI (1 - i + 2 * m) ∧ bt (R2 k) k = true) x (q + 1) = (pm (fun k => C k = nI (1 - i + 2 * m) ∧ bt (R2 k) k = true) x q) ||| ((1 : Int32) <<< ((nI q) &&& 31)) := pm_t ⟨c41, (xb_t _ (by omega)).mp c57⟩
              exact ih2 (q + 1) (by omega) H locs ls hP hD hS (by rw [e9]; exact lv_sub hl [0, 1, 2, 3, 4, 5] rfl)
      exact lpi 8 0 rfl _ _ ls hP hD hS (lv_sub hl [0, 2, 1, 3, 4, 5] rfl)
  exact lpo 3 0 0 R rfl (bcs_0 i ch) _ _ ls hP hD hS (lv_sub hl [0, 1, 2, 3, 4] rfl)
end
section
/-! 17.x1b: printed by gen (walks) -/
set_option maxRecDepth 100000
theorem good_cases {own col f s : Nat → Nat} {i : Nat} {ch r : Int32} (hi : i ≤ 1) (h : r = a_good own col f s (nI i) ch) : (r = 1 ∧ gd own col f s i ch) ∨ (r = 0 ∧ ¬ gd own col f s i ch) := by
  by_cases hg : gd own col f s i ch
  · exact Or.inl ⟨h.trans (good_t hi hg), hg⟩
  · exact Or.inr ⟨h.trans (good_f hi hg), hg⟩
set_option maxHeartbeats 4000000 in
set_option maxRecDepth 100000 in
theorem m1_wonBy0 (l : Launch) (D : va_G) (ad : Nat → Nat) (d : ClassId) (kn wi : Int32) (O C F S R : Nat → Int32) (own col f1 f2 : Nat → Nat) (hg : tv own col f1 f2 O C F S) : CI l yX1_wonBy0 cX1_wonBy0 5 (some .int) 2 54 D d [.ref (ad 0)] (wM ad d O C F S R kn wi) (fun r (_ : Nat → Int32) => rgn own col f1 f2 r) (fun (u : Nat → Int32) => wM ad d O C F S u kn wi) := by
  refine CI_of (by decide) (Nat.le_of_ble_eq_true rfl) (fun p e s m below meth c A Q ls E hret => ?_)
  obtain ⟨hx, hb, hml, hown, hts, hA, hK, hP, hD, hS, hl⟩ := E
  have hown : s.vm.findClass RX1 = some m.cls := hown
  have hl : lv_has ls 5 [(0, .ref (ad 0))] := hl
  refine lv_iconst (v := 0) hx hb dX1_wonBy0_0 (by decide) ?_
  refine lv_istore_n (lv' := [(1, .int 0), (0, .ref (ad 0))]) hx hb dX1_wonBy0_1 rfl hl (by decide) rfl (fun ls hl => ?_)
  refine lv_iconst (v := 0) hx hb dX1_wonBy0_2 (by decide) ?_
  refine lv_istore_n (lv' := [(2, .int 0), (1, .int 0), (0, .ref (ad 0))]) hx hb dX1_wonBy0_3 rfl hl (by decide) rfl (fun ls hl => ?_)
  have lp1 : ∀ (n k : Nat), k + n = 8 → ∀ (ls : Array Slot), lv_has ls 5 [(2, .int (nI k)), (1, .int (pm (fun k => O k = 0) 0 k)), (0, .ref (ad 0))] → W p l e { frames := 2, cells := 0, slots := 0, locals := 54 } s m ([.ref (ad 0)] : List Value).toArray below meth c s.heap [] 0 0 Q (F0 m 4 ls []) := by
    intro n
    induction n with
    | zero =>
      intro k hk ls hl
      obtain rfl : k = 8 := by omega
      refine lv_iload_n hx hb dX1_wonBy0_4 rfl (lv_at hl 0 rfl) ?_
      refine lv_bipush (v := nI 8) hx hb dX1_wonBy0_5 (by decide) ?_
      refine lv_icmp_ge (tgt := 31) hx hb dX1_wonBy0_7 (by decide) (fun _ => ?_) (fun cc9 => absurd (nI_le (Nat.le_refl 8) (by decide)) cc9)
      have hmine := mine_bits hg
      generalize pm (fun k => O k = 0) 0 8 = mine at hmine hl
      refine lv_iconst (v := 0) hx hb dX1_wonBy0_31 (by decide) ?_
      refine lv_istore_n (lv' := [(2, .int 0), (1, .int mine), (0, .ref (ad 0))]) hx hb dX1_wonBy0_32 rfl hl (by decide) rfl (fun ls hl => ?_)
      refine lv_iconst (v := 0) hx hb dX1_wonBy0_33 (by decide) ?_
      refine lv_istore_n (lv' := [(3, .int 0), (2, .int 0), (1, .int mine), (0, .ref (ad 0))]) hx hb dX1_wonBy0_34 rfl hl (by decide) rfl (fun ls hl => ?_)
      have lp2 : ∀ (n k : Nat) (x : Int32) (R : Nat → Int32), k + n = 256 → srch own col f1 f2 mine k x → ∀ (H : Heap) (locs : List Loc) (ls : Array Slot), va_P D vwCl (wM ad d O C F S R kn wi) H → va_D A (wM ad d O C F S R kn wi) → va_S A s.heap H locs → lv_has ls 5 [(3, .int (nI k)), (2, .int x), (1, .int mine), (0, .ref (ad 0))] → W p l e { frames := 2, cells := 0, slots := 0, locals := 54 } s m ([.ref (ad 0)] : List Value).toArray below meth c H locs 0 0 Q (F0 m 35 ls []) := by
        intro n
        induction n with
        | zero =>
          intro k x R hk hsr H locs ls hP hD hS hl
          obtain rfl : k = 256 := by omega
          refine lv_iload_n hx hb dX1_wonBy0_35 rfl (lv_at hl 0 rfl) ?_
          refine lv_sipush (v := nI 256) hx hb dX1_wonBy0_36 (by decide) ?_
          refine lv_icmp_ge (tgt := 69) hx hb dX1_wonBy0_39 (by decide) (fun _ => ?_) (fun cc9 => absurd (nI_le (Nat.le_refl 256) (by decide)) cc9)
          refine lv_iload_n hx hb dX1_wonBy0_69 rfl (lv_at hl 1 rfl) ?_
          exact hret _ _ _ _ _ R dX1_wonBy0_70 (srch_rgn hmine hsr) hP hD hS
        | succ n ih =>
          intro k x R hk hsr H locs ls hP hD hS hl
          refine lv_iload_n hx hb dX1_wonBy0_35 rfl (lv_at hl 0 rfl) ?_
          refine lv_sipush (v := nI 256) hx hb dX1_wonBy0_36 (by decide) ?_
          refine lv_icmp_ge (tgt := 69) hx hb dX1_wonBy0_39 (by decide) (fun cc9 => absurd cc9 (nI_ge (by omega) (by decide))) (fun _ => ?_)
          refine lv_iload_n hx hb dX1_wonBy0_42 rfl (lv_at hl 0 rfl) ?_
          refine lv_iload_n hx hb dX1_wonBy0_43 rfl (lv_at hl 2 rfl) ?_
          refine lv_iconst (v := (-1)) hx hb dX1_wonBy0_44 (by decide) ?_
          refine lv_ixor hx hb dX1_wonBy0_45 ?_
          refine lv_iand hx hb dX1_wonBy0_46 ?_
          refine lv_if_ne (tgt := 63) hx hb dX1_wonBy0_47 (by decide) (fun c47 => ?_) (fun c47 => ?_)
          · refine lv_iinc (v := nI (k + 1)) (lv' := [(3, .int (nI (k + 1))), (2, .int x), (1, .int mine), (0, .ref (ad 0))]) hx hb dX1_wonBy0_63 hl (k := 0) rfl (nI_i1 _) (by decide) rfl (fun ls hl => ?_)
            refine lv_goto (tgt := 35) hx hb dX1_wonBy0_66 (by decide) ?_
            exact ih (k + 1) x R (by omega) (srch_f hsr c47) _ _ ls hP hD hS (lv_sub hl [0, 1, 2, 3] rfl)
          · refine lv_aload_n hx hb dX1_wonBy0_50 rfl (lv_at hl 3 rfl) ?_
            refine lv_iconst (v := nI 0) hx hb dX1_wonBy0_51 (by decide) ?_
            refine lv_iload_n hx hb dX1_wonBy0_52 rfl (lv_at hl 0 rfl) ?_
            refine x_vi [.int (nI 0), .int (nI k)] [] 2 (m1_plan l D ad d kn wi O C F S R own col f1 f2 hg 0 (by decide) (nI k)) hx hb hml hown hts hA hK hP hD hS (lw_V q234 q236 qs18 q22 q237) (by decide +kernel) rfl ⟨Nat.le_of_ble_eq_true rfl, Nat.le_of_ble_eq_true rfl⟩ rfl rfl rfl rfl hl.1 (Nat.le_of_ble_eq_true rfl) ⟨Nat.zero_le _, Nat.zero_le _⟩ dX1_wonBy0_53 (fun more R1 H locs hw hP hD hS => ?_)
            have hmo := hw
            have hP : va_P D vwCl (wM ad d O C F S R1 kn wi) H := hP
            have hD : va_D A (wM ad d O C F S R1 kn wi) := hD
            refine lv_istore (lv' := [(4, .int more), (3, .int (nI k)), (2, .int x), (1, .int mine), (0, .ref (ad 0))]) hx hb dX1_wonBy0_56 hl (by decide) rfl (fun ls hl => ?_)
            refine lv_iload_n hx hb dX1_wonBy0_58 rfl (lv_at hl 2 rfl) ?_
            refine lv_iload hx hb dX1_wonBy0_59 (lv_at hl 0 rfl) ?_
            refine lv_ior hx hb dX1_wonBy0_61 ?_
            refine lv_istore_n (lv' := [(2, .int (x ||| more)), (4, .int more), (3, .int (nI k)), (1, .int mine), (0, .ref (ad 0))]) hx hb dX1_wonBy0_62 rfl hl (by decide) rfl (fun ls hl => ?_)
            refine lv_iinc (v := nI (k + 1)) (lv' := [(3, .int (nI (k + 1))), (2, .int (x ||| more)), (4, .int more), (1, .int mine), (0, .ref (ad 0))]) hx hb dX1_wonBy0_63 hl (k := 2) rfl (nI_i1 _) (by decide) rfl (fun ls hl => ?_)
            refine lv_goto (tgt := 35) hx hb dX1_wonBy0_66 (by decide) ?_
            exact ih (k + 1) _ R1 (by omega) (srch_t hsr c47 hmo) _ _ ls hP hD hS (lv_sub hl [0, 1, 3, 4] rfl)
      exact lp2 256 0 0 _ rfl (srch_0 mine) _ _ ls hP hD hS (lv_sub hl [0, 1, 2, 3] rfl)
    | succ n ih =>
      intro k hk ls hl
      refine lv_iload_n hx hb dX1_wonBy0_4 rfl (lv_at hl 0 rfl) ?_
      refine lv_bipush (v := nI 8) hx hb dX1_wonBy0_5 (by decide) ?_
      refine lv_icmp_ge (tgt := 31) hx hb dX1_wonBy0_7 (by decide) (fun cc9 => absurd cc9 (nI_ge (by omega) (by decide))) (fun _ => ?_)
      refine lv_aload_n hx hb dX1_wonBy0_10 rfl (lv_at hl 2 rfl) ?_
      refine x_g1 0 7 hx hb hown hts hK hP (by decide) q176 rfl rfl dX1_wonBy0_11 ?_
      refine lv_iload_n hx hb dX1_wonBy0_14 rfl (lv_at hl 0 rfl) ?_
      refine x_ald k rfl 1 (by omega) (by decide) hx hb hK hP rfl dX1_wonBy0_15 ?_
      refine lv_if_ne (tgt := 25) hx hb dX1_wonBy0_16 (by decide) (fun c16 => ?_) (fun c16 => ?_)
      · refine lv_iinc (v := nI (k + 1)) (lv' := [(2, .int (nI (k + 1))), (1, .int (pm (fun k => O k = 0) 0 k)), (0, .ref (ad 0))]) hx hb dX1_wonBy0_25 hl (k := 0) rfl (nI_i1 _) (by decide) rfl (fun ls hl => ?_)
        refine lv_goto (tgt := 4) hx hb dX1_wonBy0_28 (by decide) ?_
        have e9 : pm (fun k => O k = 0) 0 (k + 1) = pm (fun k => O k = 0) 0 k := pm_f c16
        exact ih (k + 1) (by omega) ls (by rw [e9]; exact lv_sub hl [0, 1, 2] rfl)
      · refine lv_iload_n hx hb dX1_wonBy0_19 rfl (lv_at hl 1 rfl) ?_
        refine lv_iconst (v := 1) hx hb dX1_wonBy0_20 (by decide) ?_
        refine lv_iload_n hx hb dX1_wonBy0_21 rfl (lv_at hl 0 rfl) ?_
        refine lv_ishl hx hb dX1_wonBy0_22 ?_
        refine lv_ior hx hb dX1_wonBy0_23 ?_
        refine lv_istore_n (lv' := [(1, .int ((pm (fun k => O k = 0) 0 k) ||| ((1 : Int32) <<< ((nI k) &&& 31)))), (2, .int (nI k)), (0, .ref (ad 0))]) hx hb dX1_wonBy0_24 rfl hl (by decide) rfl (fun ls hl => ?_)
        refine lv_iinc (v := nI (k + 1)) (lv' := [(2, .int (nI (k + 1))), (1, .int ((pm (fun k => O k = 0) 0 k) ||| ((1 : Int32) <<< ((nI k) &&& 31)))), (0, .ref (ad 0))]) hx hb dX1_wonBy0_25 hl (k := 1) rfl (nI_i1 _) (by decide) rfl (fun ls hl => ?_)
        refine lv_goto (tgt := 4) hx hb dX1_wonBy0_28 (by decide) ?_
        have e9 : pm (fun k => O k = 0) 0 (k + 1) = (pm (fun k => O k = 0) 0 k) ||| ((1 : Int32) <<< ((nI k) &&& 31)) := pm_t c16
        exact ih (k + 1) (by omega) ls (by rw [e9]; exact lv_sub hl [0, 1, 2] rfl)
  exact lp1 8 0 rfl ls (lv_sub hl [0, 1, 2] rfl)
set_option maxHeartbeats 4000000 in
set_option maxRecDepth 100000 in
theorem m1_region (l : Launch) (D : va_G) (ad : Nat → Nat) (d : ClassId) (kn wi : Int32) (O C F S R : Nat → Int32) (own col f1 f2 : Nat → Nat) (hg : tv own col f1 f2 O C F S) (hkc : kc own col f1 f2 kn wi) : CI l yX1_region cX1_region 1 (some .int) 3 78 D d [.ref (ad 0)] (wM ad d O C F S R kn wi) (fun r (u : MSt) => rgn own col f1 f2 r ∧ tvu own col f1 f2 u) (fun (u : MSt) => wMu ad d u) := by
  refine CI_of (by decide) (Nat.le_of_ble_eq_true rfl) (fun p e s m below meth c A Q ls E hret => ?_)
  obtain ⟨hx, hb, hml, hown, hts, hA, hK, hP, hD, hS, hl⟩ := E
  have hown : s.vm.findClass RX1 = some m.cls := hown
  have hl : lv_has ls 1 [(0, .ref (ad 0))] := hl
  rcases hkc with rfl | ⟨rfl, hwi⟩
  · refine lv_aload_n hx hb dX1_region_0 rfl (lv_at hl 0 rfl) ?_
    refine x_g1 5 32 hx hb hown hts hK hP (by decide) q181 rfl rfl dX1_region_1 ?_
    refine lv_if_ne (tgt := 20) hx hb dX1_region_4 (by decide) (fun cc9 => absurd (by decide) cc9) (fun _ => ?_)
    refine lv_aload_n hx hb dX1_region_7 rfl (lv_at hl 0 rfl) ?_
    refine lv_iconst (v := 1) hx hb dX1_region_8 (by decide) ?_
    refine x_p1 (ty := .boolean) 5 32 hx hb hown hts hK hP hD hS (by decide) q181 rfl rfl (by decide +kernel) rfl rfl (Nat.le_of_ble_eq_true rfl) dX1_region_9 (fun H locs hP hD hS => ?_)
    have hP : va_P D vwCl (wM ad d O C F S R 1 wi) H := hP
    have hD : va_D A (wM ad d O C F S R 1 wi) := hD
    refine lv_aload_n hx hb dX1_region_12 rfl (lv_at hl 0 rfl) ?_
    refine lv_aload_n hx hb dX1_region_13 rfl (lv_at hl 0 rfl) ?_
    refine x_vi [] [.ref (ad 0)] 0 (m1_wonBy0 l D ad d 1 wi O C F S R own col f1 f2 hg) hx hb hml hown hts hA hK hP hD hS (lw_V q230 q232 qs17 q22 q233) (by decide +kernel) rfl ⟨Nat.le_of_ble_eq_true rfl, Nat.le_of_ble_eq_true rfl⟩ rfl rfl rfl rfl hl.1 (Nat.le_of_ble_eq_true rfl) ⟨Nat.zero_le _, Nat.zero_le _⟩ dX1_region_14 (fun r R1 H locs hw hP hD hS => ?_)
    have hr0 := hw
    have hP : va_P D vwCl (wM ad d O C F S R1 1 wi) H := hP
    have hD : va_D A (wM ad d O C F S R1 1 wi) := hD
    refine x_p1 (ty := .int) 6 51 hx hb hown hts hK hP hD hS (by decide) q182 rfl rfl (by decide +kernel) rfl rfl (Nat.le_of_ble_eq_true rfl) dX1_region_17 (fun H locs hP hD hS => ?_)
    have hP : va_P D vwCl (wM ad d O C F S R1 1 r) H := hP
    have hD : va_D A (wM ad d O C F S R1 1 r) := hD
    refine lv_aload_n hx hb dX1_region_20 rfl (lv_at hl 0 rfl) ?_
    refine x_g1 6 51 hx hb hown hts hK hP (by decide) q182 rfl rfl dX1_region_21 ?_
    exact hret _ _ _ _ _ (O, C, F, S, R1, 1, r) dX1_region_24 ⟨hr0, hg, Or.inr ⟨rfl, hr0⟩⟩ hP hD hS
  · refine lv_aload_n hx hb dX1_region_0 rfl (lv_at hl 0 rfl) ?_
    refine x_g1 5 32 hx hb hown hts hK hP (by decide) q181 rfl rfl dX1_region_1 ?_
    refine lv_if_ne (tgt := 20) hx hb dX1_region_4 (by decide) (fun _ => ?_) (fun cc9 => absurd cc9 (by decide))
    refine lv_aload_n hx hb dX1_region_20 rfl (lv_at hl 0 rfl) ?_
    refine x_g1 6 51 hx hb hown hts hK hP (by decide) q182 rfl rfl dX1_region_21 ?_
    exact hret _ _ _ _ _ (O, C, F, S, R, 1, wi) dX1_region_24 ⟨hwi, hg, Or.inr ⟨rfl, hwi⟩⟩ hP hD hS
set_option maxHeartbeats 4000000 in
set_option maxRecDepth 100000 in
theorem m1_winner (l : Launch) (D : va_G) (ad : Nat → Nat) (d : ClassId) (kn wi : Int32) (O C F S R : Nat → Int32) (own col f1 f2 : Nat → Nat) (hg : tv own col f1 f2 O C F S) (hkc : kc own col f1 f2 kn wi) (x : Int32) : CI l yX1_winner cX1_winner 2 (some .int) 4 98 D d [.ref (ad 0), .int x] (wM ad d O C F S R kn wi) (fun r (u : MSt) => r = a_win own col f1 f2 x ∧ tvu own col f1 f2 u) (fun (u : MSt) => wMu ad d u) := by
  refine CI_of (by decide) (Nat.le_of_ble_eq_true rfl) (fun p e s m below meth c A Q ls E hret => ?_)
  obtain ⟨hx, hb, hml, hown, hts, hA, hK, hP, hD, hS, hl⟩ := E
  have hown : s.vm.findClass RX1 = some m.cls := hown
  have hl : lv_has ls 2 [(0, .ref (ad 0)), (1, .int x)] := hl
  refine lv_aload_n hx hb dX1_winner_0 rfl (lv_at hl 0 rfl) ?_
  refine lv_iload_n hx hb dX1_winner_1 rfl (lv_at hl 1 rfl) ?_
  refine x_vi [.int x] [] 1 (m1_bad l D ad d kn wi O C F S R x) hx hb hml hown hts hA hK hP hD hS (lw_V q202 q204 qs15 q22 q205) (by decide +kernel) rfl ⟨Nat.le_of_ble_eq_true rfl, Nat.le_of_ble_eq_true rfl⟩ rfl rfl rfl rfl hl.1 (Nat.le_of_ble_eq_true rfl) ⟨Nat.zero_le _, Nat.zero_le _⟩ dX1_winner_2 (fun r u H locs hw hP hD hS => ?_)
  rcases hw with ⟨rfl, hbx⟩ | ⟨rfl, j, hj, rfl⟩
  · refine lv_if_eq (tgt := 10) hx hb dX1_winner_5 (by decide) (fun cc9 => absurd cc9 (by decide)) (fun _ => ?_)
    refine lv_iconst (v := (-1)) hx hb dX1_winner_8 (by decide) ?_
    exact hret _ _ _ _ _ (O, C, F, S, R, kn, wi) dX1_winner_9 ⟨(cif_t hbx).symm, hg, hkc⟩ hP hD hS
  · refine lv_if_eq (tgt := 10) hx hb dX1_winner_5 (by decide) (fun _ => ?_) (fun cc9 => absurd (by decide) cc9)
    refine lv_aload_n hx hb dX1_winner_10 rfl (lv_at hl 0 rfl) ?_
    refine x_vi [] [] 0 (m1_region l D ad d kn wi O C F S R own col f1 f2 hg hkc) hx hb hml hown hts hA hK hP hD hS (lw_V q226 q227 q228 q22 q229) (by decide +kernel) rfl ⟨Nat.le_of_ble_eq_true rfl, Nat.le_of_ble_eq_true rfl⟩ rfl rfl rfl rfl hl.1 (Nat.le_of_ble_eq_true rfl) ⟨Nat.zero_le _, Nat.zero_le _⟩ dX1_winner_11 (fun r u H locs hw hP hD hS => ?_)
    obtain ⟨O1, C1, F1, S1, R1, kn1, wi1⟩ := u
    obtain ⟨hr0, hg1, hk1⟩ := hw
    have hg1 : tv own col f1 f2 O1 C1 F1 S1 := hg1
    have hk1 : kc own col f1 f2 kn1 wi1 := hk1
    have hP : va_P D vwCl (wM ad d O1 C1 F1 S1 R1 kn1 wi1) H := hP
    have hD : va_D A (wM ad d O1 C1 F1 S1 R1 kn1 wi1) := hD
    refine lv_iload_n hx hb dX1_winner_14 rfl (lv_at hl 1 rfl) ?_
    refine lv_ishr hx hb dX1_winner_15 ?_
    refine lv_iconst (v := 1) hx hb dX1_winner_16 (by decide) ?_
    refine lv_iand hx hb dX1_winner_17 ?_
    refine lv_iconst (v := 1) hx hb dX1_winner_18 (by decide) ?_
    refine lv_icmp_ne (tgt := 26) hx hb dX1_winner_19 (by decide) (fun c19 => ?_) (fun c19 => ?_)
    · refine lv_iconst (v := 1) hx hb dX1_winner_26 (by decide) ?_
      exact hret _ _ _ _ _ (O1, C1, F1, S1, R1, kn1, wi1) dX1_winner_27 ⟨(win_f hr0 hj (fun h => c19 ((xb_t _ (by omega)).mpr h))).symm, hg1, hk1⟩ hP hD hS
    · refine lv_iconst (v := 0) hx hb dX1_winner_22 (by decide) ?_
      refine lv_goto (tgt := 27) hx hb dX1_winner_23 (by decide) ?_
      exact hret _ _ _ _ _ (O1, C1, F1, S1, R1, kn1, wi1) dX1_winner_27 ⟨(win_t hr0 hj ((xb_t _ (by omega)).mp c19)).symm, hg1, hk1⟩ hP hD hS
set_option maxHeartbeats 4000000 in
set_option maxRecDepth 100000 in
theorem m1_good (l : Launch) (D : va_G) (ad : Nat → Nat) (d : ClassId) (kn wi : Int32) (O C F S R : Nat → Int32) (own col f1 f2 : Nat → Nat) (hg : tv own col f1 f2 O C F S) (hkc : kc own col f1 f2 kn wi) (x ch : Int32) : CI l yX1_good cX1_good 5 (some .boolean) 4 98 D d [.ref (ad 0), .int x, .int ch] (wM ad d O C F S R kn wi) (fun r (u : MSt) => r = a_good own col f1 f2 x ch ∧ tvu own col f1 f2 u) (fun (u : MSt) => wMu ad d u) := by
  refine CZ_of (by decide) (Nat.le_of_ble_eq_true rfl) (fun p e s m below meth c A Q ls E hret => ?_)
  obtain ⟨hx, hb, hml, hown, hts, hA, hK, hP, hD, hS, hl⟩ := E
  have hown : s.vm.findClass RX1 = some m.cls := hown
  have hl : lv_has ls 5 [(0, .ref (ad 0)), (1, .int x), (2, .int ch)] := hl
  refine lv_iload_n hx hb dX1_good_0 rfl (lv_at hl 1 rfl) ?_
  refine lv_if_lt (tgt := 9) hx hb dX1_good_1 (by decide) (fun c1 => ?_) (fun c1 => ?_)
  · refine lv_iconst (v := 0) hx hb dX1_good_9 (by decide) ?_
    exact hret _ _ _ _ _ (O, C, F, S, R, kn, wi) dX1_good_10 (Or.inl rfl) ⟨(cif_t (Or.inl c1)).symm, hg, hkc⟩ hP hD hS
  · refine lv_iload_n hx hb dX1_good_4 rfl (lv_at hl 1 rfl) ?_
    refine lv_iconst (v := 1) hx hb dX1_good_5 (by decide) ?_
    refine lv_icmp_le (tgt := 11) hx hb dX1_good_6 (by decide) (fun c6 => ?_) (fun c6 => ?_)
    · obtain ⟨i, hi, rfl⟩ := pl_of c1 c6
      rcases (show i = 0 ∨ i = 1 by omega) with e0 | e0 <;> subst e0
      · refine lv_iload_n hx hb dX1_good_11 rfl (lv_at hl 1 rfl) ?_
        refine lv_if_ne (tgt := 22) hx hb dX1_good_12 (by decide) (fun cc9 => absurd rfl cc9) (fun _ => ?_)
        refine lv_aload_n hx hb dX1_good_15 rfl (lv_at hl 0 rfl) ?_
        refine x_vi [] [] 0 (m1_region l D ad d kn wi O C F S R own col f1 f2 hg hkc) hx hb hml hown hts hA hK hP hD hS (lw_V q226 q227 q228 q22 q229) (by decide +kernel) rfl ⟨Nat.le_of_ble_eq_true rfl, Nat.le_of_ble_eq_true rfl⟩ rfl rfl rfl rfl hl.1 (Nat.le_of_ble_eq_true rfl) ⟨Nat.zero_le _, Nat.zero_le _⟩ dX1_good_16 (fun r u H locs hw hP hD hS => ?_)
        obtain ⟨O1, C1, F1, S1, R1, kn1, wi1⟩ := u
        obtain ⟨hr0, hg1, hk1⟩ := hw
        have hg1 : tv own col f1 f2 O1 C1 F1 S1 := hg1
        have hk1 : kc own col f1 f2 kn1 wi1 := hk1
        have hP : va_P D vwCl (wM ad d O1 C1 F1 S1 R1 kn1 wi1) H := hP
        have hD : va_D A (wM ad d O1 C1 F1 S1 R1 kn1 wi1) := hD
        refine lv_goto (tgt := 32) hx hb dX1_good_19 (by decide) ?_
        refine lv_istore_n (lv' := [(3, .int r), (0, .ref (ad 0)), (1, .int (nI 0)), (2, .int ch)]) hx hb dX1_good_32 rfl hl (by decide) rfl (fun ls hl => ?_)
        refine lv_aload_n hx hb dX1_good_33 rfl (lv_at hl 1 rfl) ?_
        refine lv_iload_n hx hb dX1_good_34 rfl (lv_at hl 2 rfl) ?_
        refine lv_iload_n hx hb dX1_good_35 rfl (lv_at hl 3 rfl) ?_
        refine x_vi [.int (nI 0), .int ch] [] 2 (m1_plan l D ad d kn1 wi1 O1 C1 F1 S1 R1 own col f1 f2 hg1 0 (by decide) ch) hx hb hml hown hts hA hK hP hD hS (lw_V q234 q236 qs18 q22 q237) (by decide +kernel) rfl ⟨Nat.le_of_ble_eq_true rfl, Nat.le_of_ble_eq_true rfl⟩ rfl rfl rfl rfl hl.1 (Nat.le_of_ble_eq_true rfl) ⟨Nat.zero_le _, Nat.zero_le _⟩ dX1_good_36 (fun w R2 H locs hw hP hD hS => ?_)
        have hwb := hw
        have hP : va_P D vwCl (wM ad d O1 C1 F1 S1 R2 kn1 wi1) H := hP
        have hD : va_D A (wM ad d O1 C1 F1 S1 R2 kn1 wi1) := hD
        refine lv_istore (lv' := [(4, .int w), (3, .int r), (0, .ref (ad 0)), (1, .int (nI 0)), (2, .int ch)]) hx hb dX1_good_39 hl (by decide) rfl (fun ls hl => ?_)
        refine lv_iload_n hx hb dX1_good_41 rfl (lv_at hl 1 rfl) ?_
        refine lv_iload hx hb dX1_good_42 (lv_at hl 0 rfl) ?_
        refine lv_iconst (v := (-1)) hx hb dX1_good_44 (by decide) ?_
        refine lv_ixor hx hb dX1_good_45 ?_
        refine lv_iand hx hb dX1_good_46 ?_
        refine lv_if_ne (tgt := 54) hx hb dX1_good_47 (by decide) (fun c47 => ?_) (fun c47 => ?_)
        · refine lv_iconst (v := 0) hx hb dX1_good_54 (by decide) ?_
          exact hret _ _ _ _ _ (O1, C1, F1, S1, R2, kn1, wi1) dX1_good_55 (Or.inl rfl) ⟨(good_f (by decide) (fun h => c47 ((tgood (due0 hr0) hwb).mpr h))).symm, hg1, hk1⟩ hP hD hS
        · refine lv_iconst (v := 1) hx hb dX1_good_50 (by decide) ?_
          refine lv_goto (tgt := 55) hx hb dX1_good_51 (by decide) ?_
          exact hret _ _ _ _ _ (O1, C1, F1, S1, R2, kn1, wi1) dX1_good_55 (Or.inr rfl) ⟨(good_t (by decide) ((tgood (due0 hr0) hwb).mp c47)).symm, hg1, hk1⟩ hP hD hS
      · refine lv_iload_n hx hb dX1_good_11 rfl (lv_at hl 1 rfl) ?_
        refine lv_if_ne (tgt := 22) hx hb dX1_good_12 (by decide) (fun _ => ?_) (fun cc9 => absurd cc9 (by decide))
        refine lv_sipush (v := nI 255) hx hb dX1_good_22 (by decide) ?_
        refine lv_aload_n hx hb dX1_good_25 rfl (lv_at hl 0 rfl) ?_
        refine x_vi [] [.int (nI 255)] 0 (m1_region l D ad d kn wi O C F S R own col f1 f2 hg hkc) hx hb hml hown hts hA hK hP hD hS (lw_V q226 q227 q228 q22 q229) (by decide +kernel) rfl ⟨Nat.le_of_ble_eq_true rfl, Nat.le_of_ble_eq_true rfl⟩ rfl rfl rfl rfl hl.1 (Nat.le_of_ble_eq_true rfl) ⟨Nat.zero_le _, Nat.zero_le _⟩ dX1_good_26 (fun r u H locs hw hP hD hS => ?_)
        obtain ⟨O1, C1, F1, S1, R1, kn1, wi1⟩ := u
        obtain ⟨hr0, hg1, hk1⟩ := hw
        have hg1 : tv own col f1 f2 O1 C1 F1 S1 := hg1
        have hk1 : kc own col f1 f2 kn1 wi1 := hk1
        have hP : va_P D vwCl (wM ad d O1 C1 F1 S1 R1 kn1 wi1) H := hP
        have hD : va_D A (wM ad d O1 C1 F1 S1 R1 kn1 wi1) := hD
        refine lv_iconst (v := (-1)) hx hb dX1_good_29 (by decide) ?_
        refine lv_ixor hx hb dX1_good_30 ?_
        refine lv_iand hx hb dX1_good_31 ?_
        refine lv_istore_n (lv' := [(3, .int ((nI 255) &&& (r ^^^ (-1)))), (0, .ref (ad 0)), (1, .int (nI 1)), (2, .int ch)]) hx hb dX1_good_32 rfl hl (by decide) rfl (fun ls hl => ?_)
        refine lv_aload_n hx hb dX1_good_33 rfl (lv_at hl 1 rfl) ?_
        refine lv_iload_n hx hb dX1_good_34 rfl (lv_at hl 2 rfl) ?_
        refine lv_iload_n hx hb dX1_good_35 rfl (lv_at hl 3 rfl) ?_
        refine x_vi [.int (nI 1), .int ch] [] 2 (m1_plan l D ad d kn1 wi1 O1 C1 F1 S1 R1 own col f1 f2 hg1 1 (by decide) ch) hx hb hml hown hts hA hK hP hD hS (lw_V q234 q236 qs18 q22 q237) (by decide +kernel) rfl ⟨Nat.le_of_ble_eq_true rfl, Nat.le_of_ble_eq_true rfl⟩ rfl rfl rfl rfl hl.1 (Nat.le_of_ble_eq_true rfl) ⟨Nat.zero_le _, Nat.zero_le _⟩ dX1_good_36 (fun w R2 H locs hw hP hD hS => ?_)
        have hwb := hw
        have hP : va_P D vwCl (wM ad d O1 C1 F1 S1 R2 kn1 wi1) H := hP
        have hD : va_D A (wM ad d O1 C1 F1 S1 R2 kn1 wi1) := hD
        refine lv_istore (lv' := [(4, .int w), (3, .int ((nI 255) &&& (r ^^^ (-1)))), (0, .ref (ad 0)), (1, .int (nI 1)), (2, .int ch)]) hx hb dX1_good_39 hl (by decide) rfl (fun ls hl => ?_)
        refine lv_iload_n hx hb dX1_good_41 rfl (lv_at hl 1 rfl) ?_
        refine lv_iload hx hb dX1_good_42 (lv_at hl 0 rfl) ?_
        refine lv_iconst (v := (-1)) hx hb dX1_good_44 (by decide) ?_
        refine lv_ixor hx hb dX1_good_45 ?_
        refine lv_iand hx hb dX1_good_46 ?_
        refine lv_if_ne (tgt := 54) hx hb dX1_good_47 (by decide) (fun c47 => ?_) (fun c47 => ?_)
        · refine lv_iconst (v := 0) hx hb dX1_good_54 (by decide) ?_
          exact hret _ _ _ _ _ (O1, C1, F1, S1, R2, kn1, wi1) dX1_good_55 (Or.inl rfl) ⟨(good_f (by decide) (fun h => c47 ((tgood (due1 hg1.1 hr0) hwb).mpr h))).symm, hg1, hk1⟩ hP hD hS
        · refine lv_iconst (v := 1) hx hb dX1_good_50 (by decide) ?_
          refine lv_goto (tgt := 55) hx hb dX1_good_51 (by decide) ?_
          exact hret _ _ _ _ _ (O1, C1, F1, S1, R2, kn1, wi1) dX1_good_55 (Or.inr rfl) ⟨(good_t (by decide) ((tgood (due1 hg1.1 hr0) hwb).mp c47)).symm, hg1, hk1⟩ hP hD hS
    · refine lv_iconst (v := 0) hx hb dX1_good_9 (by decide) ?_
      exact hret _ _ _ _ _ (O, C, F, S, R, kn, wi) dX1_good_10 (Or.inl rfl) ⟨(cif_t (Or.inr (i32_nle c6))).symm, hg, hkc⟩ hP hD hS
set_option maxHeartbeats 4000000 in
set_option maxRecDepth 100000 in
theorem m1_plans (l : Launch) (D : va_G) (ad : Nat → Nat) (d : ClassId) (kn wi : Int32) (O C F S R : Nat → Int32) (own col f1 f2 : Nat → Nat) (hg : tv own col f1 f2 O C F S) (hkc : kc own col f1 f2 kn wi) (x : Int32) : CI l yX1_plans cX1_plans 4 (some .int) 5 122 D d [.ref (ad 0), .int x] (wM ad d O C F S R kn wi) (fun r (u : MSt) => r = a_plans own col f1 f2 x ∧ tvu own col f1 f2 u) (fun (u : MSt) => wMu ad d u) := by
  refine CI_of (by decide) (Nat.le_of_ble_eq_true rfl) (fun p e s m below meth c A Q ls E hret => ?_)
  obtain ⟨hx, hb, hml, hown, hts, hA, hK, hP, hD, hS, hl⟩ := E
  have hown : s.vm.findClass RX1 = some m.cls := hown
  have hl : lv_has ls 4 [(0, .ref (ad 0)), (1, .int x)] := hl
  refine lv_iload_n hx hb dX1_plans_0 rfl (lv_at hl 1 rfl) ?_
  refine lv_if_lt (tgt := 9) hx hb dX1_plans_1 (by decide) (fun c1 => ?_) (fun c1 => ?_)
  · refine lv_bipush (v := (-3)) hx hb dX1_plans_9 (by decide) ?_
    exact hret _ _ _ _ _ (O, C, F, S, R, kn, wi) dX1_plans_11 ⟨(cif_t (Or.inl c1)).symm, hg, hkc⟩ hP hD hS
  · refine lv_iload_n hx hb dX1_plans_4 rfl (lv_at hl 1 rfl) ?_
    refine lv_iconst (v := 1) hx hb dX1_plans_5 (by decide) ?_
    refine lv_icmp_le (tgt := 12) hx hb dX1_plans_6 (by decide) (fun c6 => ?_) (fun c6 => ?_)
    · obtain ⟨i, hi, rfl⟩ := pl_of c1 c6
      refine lv_iconst (v := 0) hx hb dX1_plans_12 (by decide) ?_
      refine lv_istore_n (lv' := [(2, .int 0), (0, .ref (ad 0)), (1, .int (nI i))]) hx hb dX1_plans_13 rfl hl (by decide) rfl (fun ls hl => ?_)
      refine lv_iconst (v := 0) hx hb dX1_plans_14 (by decide) ?_
      refine lv_istore_n (lv' := [(3, .int 0), (2, .int 0), (0, .ref (ad 0)), (1, .int (nI i))]) hx hb dX1_plans_15 rfl hl (by decide) rfl (fun ls hl => ?_)
      have lp : ∀ (n k : Nat) (O C F S R : Nat → Int32) (kn wi : Int32), k + n = 256 → tv own col f1 f2 O C F S → kc own col f1 f2 kn wi → ∀ (H : Heap) (locs : List Loc) (ls : Array Slot), va_P D vwCl (wM ad d O C F S R kn wi) H → va_D A (wM ad d O C F S R kn wi) → va_S A s.heap H locs → lv_has ls 4 [(3, .int (nI k)), (2, .int (nI (cnt own col f1 f2 i k))), (0, .ref (ad 0)), (1, .int (nI i))] → W p l e { frames := 5, cells := 0, slots := 0, locals := 122 } s m ([.ref (ad 0), .int (nI i)] : List Value).toArray below meth c H locs 0 0 Q (F0 m 16 ls []) := by
        intro n
        induction n with
        | zero =>
          intro k O C F S R kn wi hk hg hkc H locs ls hP hD hS hl
          obtain rfl : k = 256 := by omega
          refine lv_iload_n hx hb dX1_plans_16 rfl (lv_at hl 0 rfl) ?_
          refine lv_sipush (v := nI 256) hx hb dX1_plans_17 (by decide) ?_
          refine lv_icmp_ge (tgt := 41) hx hb dX1_plans_20 (by decide) (fun _ => ?_) (fun cc9 => absurd (nI_le (Nat.le_refl 256) (by decide)) cc9)
          refine lv_iload_n hx hb dX1_plans_41 rfl (lv_at hl 1 rfl) ?_
          exact hret _ _ _ _ _ (O, C, F, S, R, kn, wi) dX1_plans_42 ⟨(plans_ok hi).symm, hg, hkc⟩ hP hD hS
        | succ n ih =>
          intro k O C F S R kn wi hk hg hkc H locs ls hP hD hS hl
          refine lv_iload_n hx hb dX1_plans_16 rfl (lv_at hl 0 rfl) ?_
          refine lv_sipush (v := nI 256) hx hb dX1_plans_17 (by decide) ?_
          refine lv_icmp_ge (tgt := 41) hx hb dX1_plans_20 (by decide) (fun cc9 => absurd cc9 (nI_ge (by omega) (by decide))) (fun _ => ?_)
          refine lv_aload_n hx hb dX1_plans_23 rfl (lv_at hl 2 rfl) ?_
          refine lv_iload_n hx hb dX1_plans_24 rfl (lv_at hl 3 rfl) ?_
          refine lv_iload_n hx hb dX1_plans_25 rfl (lv_at hl 0 rfl) ?_
          refine x_vi [.int (nI i), .int (nI k)] [] 2 (m1_good l D ad d kn wi O C F S R own col f1 f2 hg hkc (nI i) (nI k)) hx hb hml hown hts hA hK hP hD hS (lw_V q251 q244 q245 q22 q246) (by decide +kernel) rfl ⟨Nat.le_of_ble_eq_true rfl, Nat.le_of_ble_eq_true rfl⟩ rfl rfl rfl rfl hl.1 (Nat.le_of_ble_eq_true rfl) ⟨Nat.zero_le _, Nat.zero_le _⟩ dX1_plans_26 (fun r u H locs hw hP hD hS => ?_)
          obtain ⟨O1, C1, F1, S1, R1, kn1, wi1⟩ := u
          obtain ⟨hr0, hg1, hk1⟩ := hw
          have hg1 : tv own col f1 f2 O1 C1 F1 S1 := hg1
          have hk1 : kc own col f1 f2 kn1 wi1 := hk1
          have hP : va_P D vwCl (wM ad d O1 C1 F1 S1 R1 kn1 wi1) H := hP
          have hD : va_D A (wM ad d O1 C1 F1 S1 R1 kn1 wi1) := hD
          rcases good_cases hi hr0 with ⟨rfl, hgd⟩ | ⟨rfl, hgd⟩
          · refine lv_if_eq (tgt := 35) hx hb dX1_plans_29 (by decide) (fun cc9 => absurd cc9 (by decide)) (fun _ => ?_)
            refine lv_iinc (v := nI ((cnt own col f1 f2 i k) + 1)) (lv' := [(2, .int (nI ((cnt own col f1 f2 i k) + 1))), (3, .int (nI k)), (0, .ref (ad 0)), (1, .int (nI i))]) hx hb dX1_plans_32 hl (k := 1) rfl (nI_i1 _) (by decide) rfl (fun ls hl => ?_)
            refine lv_iinc (v := nI (k + 1)) (lv' := [(3, .int (nI (k + 1))), (2, .int (nI ((cnt own col f1 f2 i k) + 1))), (0, .ref (ad 0)), (1, .int (nI i))]) hx hb dX1_plans_35 hl (k := 1) rfl (nI_i1 _) (by decide) rfl (fun ls hl => ?_)
            refine lv_goto (tgt := 16) hx hb dX1_plans_38 (by decide) ?_
            have e9 : cnt own col f1 f2 i (k + 1) = cnt own col f1 f2 i k + 1 := cnt_t hgd
            exact ih (k + 1) _ _ _ _ _ _ _ (by omega) hg1 hk1 H locs ls hP hD hS (by rw [e9]; exact lv_sub hl [0, 1, 2, 3] rfl)
          · refine lv_if_eq (tgt := 35) hx hb dX1_plans_29 (by decide) (fun _ => ?_) (fun cc9 => absurd (by decide) cc9)
            refine lv_iinc (v := nI (k + 1)) (lv' := [(3, .int (nI (k + 1))), (2, .int (nI (cnt own col f1 f2 i k))), (0, .ref (ad 0)), (1, .int (nI i))]) hx hb dX1_plans_35 hl (k := 0) rfl (nI_i1 _) (by decide) rfl (fun ls hl => ?_)
            refine lv_goto (tgt := 16) hx hb dX1_plans_38 (by decide) ?_
            have e9 : cnt own col f1 f2 i (k + 1) = cnt own col f1 f2 i k := cnt_f hgd
            exact ih (k + 1) _ _ _ _ _ _ _ (by omega) hg1 hk1 H locs ls hP hD hS (by rw [e9]; exact lv_sub hl [0, 1, 2, 3] rfl)
      exact lp 256 0 _ _ _ _ _ _ _ rfl hg hkc _ _ ls hP hD hS (lv_sub hl [0, 1, 2, 3] rfl)
    · refine lv_bipush (v := (-3)) hx hb dX1_plans_9 (by decide) ?_
      exact hret _ _ _ _ _ (O, C, F, S, R, kn, wi) dX1_plans_11 ⟨(cif_t (Or.inr (i32_nle c6))).symm, hg, hkc⟩ hP hD hS
set_option maxHeartbeats 4000000 in
set_option maxRecDepth 100000 in
theorem m1_firstPlan (l : Launch) (D : va_G) (ad : Nat → Nat) (d : ClassId) (kn wi : Int32) (O C F S R : Nat → Int32) (own col f1 f2 : Nat → Nat) (hg : tv own col f1 f2 O C F S) (hkc : kc own col f1 f2 kn wi) (x : Int32) : CI l yX1_firstPlan cX1_firstPlan 3 (some .int) 5 122 D d [.ref (ad 0), .int x] (wM ad d O C F S R kn wi) (fun r (u : MSt) => a_first own col f1 f2 x r ∧ tvu own col f1 f2 u) (fun (u : MSt) => wMu ad d u) := by
  refine CI_of (by decide) (Nat.le_of_ble_eq_true rfl) (fun p e s m below meth c A Q ls E hret => ?_)
  obtain ⟨hx, hb, hml, hown, hts, hA, hK, hP, hD, hS, hl⟩ := E
  have hown : s.vm.findClass RX1 = some m.cls := hown
  have hl : lv_has ls 3 [(0, .ref (ad 0)), (1, .int x)] := hl
  refine lv_iload_n hx hb dX1_firstPlan_0 rfl (lv_at hl 1 rfl) ?_
  refine lv_if_lt (tgt := 9) hx hb dX1_firstPlan_1 (by decide) (fun c1 => ?_) (fun c1 => ?_)
  · refine lv_bipush (v := (-3)) hx hb dX1_firstPlan_9 (by decide) ?_
    exact hret _ _ _ _ _ (O, C, F, S, R, kn, wi) dX1_firstPlan_11 ⟨Or.inl ⟨(Or.inl c1), rfl⟩, hg, hkc⟩ hP hD hS
  · refine lv_iload_n hx hb dX1_firstPlan_4 rfl (lv_at hl 1 rfl) ?_
    refine lv_iconst (v := 1) hx hb dX1_firstPlan_5 (by decide) ?_
    refine lv_icmp_le (tgt := 12) hx hb dX1_firstPlan_6 (by decide) (fun c6 => ?_) (fun c6 => ?_)
    · obtain ⟨i, hi, rfl⟩ := pl_of c1 c6
      refine lv_iconst (v := 0) hx hb dX1_firstPlan_12 (by decide) ?_
      refine lv_istore_n (lv' := [(2, .int 0), (0, .ref (ad 0)), (1, .int (nI i))]) hx hb dX1_firstPlan_13 rfl hl (by decide) rfl (fun ls hl => ?_)
      have lp : ∀ (n k : Nat) (O C F S R : Nat → Int32) (kn wi : Int32), k + n = 256 → (∀ j, j < k → ¬ gd own col f1 f2 i (nI j)) → tv own col f1 f2 O C F S → kc own col f1 f2 kn wi → ∀ (H : Heap) (locs : List Loc) (ls : Array Slot), va_P D vwCl (wM ad d O C F S R kn wi) H → va_D A (wM ad d O C F S R kn wi) → va_S A s.heap H locs → lv_has ls 3 [(2, .int (nI k)), (0, .ref (ad 0)), (1, .int (nI i))] → W p l e { frames := 5, cells := 0, slots := 0, locals := 122 } s m ([.ref (ad 0), .int (nI i)] : List Value).toArray below meth c H locs 0 0 Q (F0 m 14 ls []) := by
        intro n
        induction n with
        | zero =>
          intro k O C F S R kn wi hk hno hg hkc H locs ls hP hD hS hl
          obtain rfl : k = 256 := by omega
          obtain ⟨b9, h1, h2⟩ := gd_ex hg.1 hi
          exact absurd h2 (hno b9 h1)
        | succ n ih =>
          intro k O C F S R kn wi hk hno hg hkc H locs ls hP hD hS hl
          refine lv_iload_n hx hb dX1_firstPlan_14 rfl (lv_at hl 0 rfl) ?_
          refine lv_sipush (v := nI 256) hx hb dX1_firstPlan_15 (by decide) ?_
          refine lv_icmp_ge (tgt := 38) hx hb dX1_firstPlan_18 (by decide) (fun cc9 => absurd cc9 (nI_ge (by omega) (by decide))) (fun _ => ?_)
          refine lv_aload_n hx hb dX1_firstPlan_21 rfl (lv_at hl 1 rfl) ?_
          refine lv_iload_n hx hb dX1_firstPlan_22 rfl (lv_at hl 2 rfl) ?_
          refine lv_iload_n hx hb dX1_firstPlan_23 rfl (lv_at hl 0 rfl) ?_
          refine x_vi [.int (nI i), .int (nI k)] [] 2 (m1_good l D ad d kn wi O C F S R own col f1 f2 hg hkc (nI i) (nI k)) hx hb hml hown hts hA hK hP hD hS (lw_V q251 q244 q245 q22 q246) (by decide +kernel) rfl ⟨Nat.le_of_ble_eq_true rfl, Nat.le_of_ble_eq_true rfl⟩ rfl rfl rfl rfl hl.1 (Nat.le_of_ble_eq_true rfl) ⟨Nat.zero_le _, Nat.zero_le _⟩ dX1_firstPlan_24 (fun r u H locs hw hP hD hS => ?_)
          obtain ⟨O1, C1, F1, S1, R1, kn1, wi1⟩ := u
          obtain ⟨hr0, hg1, hk1⟩ := hw
          have hg1 : tv own col f1 f2 O1 C1 F1 S1 := hg1
          have hk1 : kc own col f1 f2 kn1 wi1 := hk1
          have hP : va_P D vwCl (wM ad d O1 C1 F1 S1 R1 kn1 wi1) H := hP
          have hD : va_D A (wM ad d O1 C1 F1 S1 R1 kn1 wi1) := hD
          rcases good_cases hi hr0 with ⟨rfl, hgd⟩ | ⟨rfl, hgd⟩
          · refine lv_if_eq (tgt := 32) hx hb dX1_firstPlan_27 (by decide) (fun cc9 => absurd cc9 (by decide)) (fun _ => ?_)
            refine lv_iload_n hx hb dX1_firstPlan_30 rfl (lv_at hl 0 rfl) ?_
            exact hret _ _ _ _ _ (O1, C1, F1, S1, R1, kn1, wi1) dX1_firstPlan_31 ⟨first_ok hi ⟨by omega, hgd, hno⟩, hg1, hk1⟩ hP hD hS
          · refine lv_if_eq (tgt := 32) hx hb dX1_firstPlan_27 (by decide) (fun _ => ?_) (fun cc9 => absurd (by decide) cc9)
            refine lv_iinc (v := nI (k + 1)) (lv' := [(2, .int (nI (k + 1))), (0, .ref (ad 0)), (1, .int (nI i))]) hx hb dX1_firstPlan_32 hl (k := 0) rfl (nI_i1 _) (by decide) rfl (fun ls hl => ?_)
            refine lv_goto (tgt := 14) hx hb dX1_firstPlan_35 (by decide) ?_
            exact ih (k + 1) _ _ _ _ _ _ _ (by omega) (lt_s hno hgd) hg1 hk1 H locs ls hP hD hS (lv_sub hl [0, 1, 2] rfl)
      exact lp 256 0 _ _ _ _ _ _ _ rfl (fun j h => absurd h (Nat.not_lt_zero _)) hg hkc _ _ ls hP hD hS (lv_sub hl [0, 1, 2] rfl)
    · refine lv_bipush (v := (-3)) hx hb dX1_firstPlan_9 (by decide) ?_
      exact hret _ _ _ _ _ (O, C, F, S, R, kn, wi) dX1_firstPlan_11 ⟨Or.inl ⟨(Or.inr (i32_nle c6)), rfl⟩, hg, hkc⟩ hP hD hS
set_option maxHeartbeats 4000000 in
set_option maxRecDepth 100000 in
theorem m1_canForce (l : Launch) (D : va_G) (ad : Nat → Nat) (d : ClassId) (kn wi : Int32) (O C F S R : Nat → Int32) (x y : Int32) : CI l yX1_canForce cX1_canForce 8 (some .boolean) 1 21 D d [.ref (ad 0), .int x, .int y] (wM ad d O C F S R kn wi) (fun r (u : MSt) => ((r = 1 ∧ ∃ a b, a < 8 ∧ b < 8 ∧ x = nI a ∧ y = nI b ∧ bt (tco O F S ((1 : Int32) <<< (nI b &&& 31)) 8) a = true) ∨ (r = 0 ∧ ¬ ∃ a b, a < 8 ∧ b < 8 ∧ x = nI a ∧ y = nI b ∧ bt (tco O F S ((1 : Int32) <<< (nI b &&& 31)) 8) a = true)) ∧ u = (O, C, F, S, R, kn, wi)) (fun (u : MSt) => wMu ad d u) := by
  refine CZ_of (by decide) (Nat.le_of_ble_eq_true rfl) (fun p e s m below meth c A Q ls E hret => ?_)
  obtain ⟨hx, hb, hml, hown, hts, hA, hK, hP, hD, hS, hl⟩ := E
  have hown : s.vm.findClass RX1 = some m.cls := hown
  have hl : lv_has ls 8 [(0, .ref (ad 0)), (1, .int x), (2, .int y)] := hl
  refine lv_aload_n hx hb dX1_canForce_0 rfl (lv_at hl 0 rfl) ?_
  refine lv_iload_n hx hb dX1_canForce_1 rfl (lv_at hl 1 rfl) ?_
  refine x_vi [.int x] [] 1 (m1_bad l D ad d kn wi O C F S R x) hx hb hml hown hts hA hK hP hD hS (lw_V q202 q204 qs15 q22 q205) (by decide +kernel) rfl ⟨Nat.le_of_ble_eq_true rfl, Nat.le_of_ble_eq_true rfl⟩ rfl rfl rfl rfl hl.1 (Nat.le_of_ble_eq_true rfl) ⟨Nat.zero_le _, Nat.zero_le _⟩ dX1_canForce_2 (fun r u H locs hw hP hD hS => ?_)
  rcases hw with ⟨rfl, hbx⟩ | ⟨rfl, a, ha9, rfl⟩
  · refine lv_if_ne (tgt := 16) hx hb dX1_canForce_5 (by decide) (fun _ => ?_) (fun cc9 => absurd cc9 (by decide))
    refine lv_iconst (v := 0) hx hb dX1_canForce_16 (by decide) ?_
    exact hret _ _ _ _ _ (O, C, F, S, R, kn, wi) dX1_canForce_17 (Or.inl rfl) ⟨Or.inr ⟨rfl, fun ⟨a, b, h1, _, h3, _⟩ => absurd hbx (by rw [h3]; exact a_bad_not h1)⟩, rfl⟩ hP hD hS
  · refine lv_if_ne (tgt := 16) hx hb dX1_canForce_5 (by decide) (fun cc9 => absurd (by decide) cc9) (fun _ => ?_)
    refine lv_aload_n hx hb dX1_canForce_8 rfl (lv_at hl 0 rfl) ?_
    refine lv_iload_n hx hb dX1_canForce_9 rfl (lv_at hl 2 rfl) ?_
    refine x_vi [.int y] [] 1 (m1_bad l D ad d kn wi O C F S R y) hx hb hml hown hts hA hK hP hD hS (lw_V q202 q204 qs15 q22 q205) (by decide +kernel) rfl ⟨Nat.le_of_ble_eq_true rfl, Nat.le_of_ble_eq_true rfl⟩ rfl rfl rfl rfl hl.1 (Nat.le_of_ble_eq_true rfl) ⟨Nat.zero_le _, Nat.zero_le _⟩ dX1_canForce_10 (fun r u H locs hw hP hD hS => ?_)
    rcases hw with ⟨rfl, hby⟩ | ⟨rfl, b, hb9, rfl⟩
    · refine lv_if_eq (tgt := 18) hx hb dX1_canForce_13 (by decide) (fun cc9 => absurd cc9 (by decide)) (fun _ => ?_)
      refine lv_iconst (v := 0) hx hb dX1_canForce_16 (by decide) ?_
      exact hret _ _ _ _ _ (O, C, F, S, R, kn, wi) dX1_canForce_17 (Or.inl rfl) ⟨Or.inr ⟨rfl, fun ⟨a, b, _, h2, _, h4, _⟩ => absurd hby (by rw [h4]; exact a_bad_not h2)⟩, rfl⟩ hP hD hS
    · refine lv_if_eq (tgt := 18) hx hb dX1_canForce_13 (by decide) (fun _ => ?_) (fun cc9 => absurd (by decide) cc9)
      refine lv_iconst (v := 1) hx hb dX1_canForce_18 (by decide) ?_
      refine lv_iload_n hx hb dX1_canForce_19 rfl (lv_at hl 2 rfl) ?_
      refine lv_ishl hx hb dX1_canForce_20 ?_
      refine lv_istore_n (lv' := [(3, .int ((1 : Int32) <<< ((nI b) &&& 31))), (0, .ref (ad 0)), (1, .int (nI a)), (2, .int (nI b))]) hx hb dX1_canForce_21 rfl hl (by decide) rfl (fun ls hl => ?_)
      refine lv_iconst (v := 0) hx hb dX1_canForce_22 (by decide) ?_
      refine lv_istore (lv' := [(4, .int 0), (3, .int ((1 : Int32) <<< ((nI b) &&& 31))), (0, .ref (ad 0)), (1, .int (nI a)), (2, .int (nI b))]) hx hb dX1_canForce_23 hl (by decide) rfl (fun ls hl => ?_)
      have lpo : ∀ (n k : Nat), k + n = 8 → ∀ (ls : Array Slot), lv_has ls 8 [(4, .int (nI k)), (3, .int (tco O F S ((1 : Int32) <<< (nI b &&& 31)) k)), (0, .ref (ad 0)), (1, .int (nI a)), (2, .int (nI b))] → W p l e { frames := 1, cells := 0, slots := 0, locals := 21 } s m ([.ref (ad 0), .int (nI a), .int (nI b)] : List Value).toArray below meth c H locs 0 0 Q (F0 m 25 ls []) := by
        intro n
        induction n with
        | zero =>
          intro k hk ls hl
          obtain rfl : k = 8 := by omega
          refine lv_iload hx hb dX1_canForce_25 (lv_at hl 0 rfl) ?_
          refine lv_bipush (v := nI 8) hx hb dX1_canForce_27 (by decide) ?_
          refine lv_icmp_ge (tgt := 138) hx hb dX1_canForce_29 (by decide) (fun _ => ?_) (fun cc9 => absurd (nI_le (Nat.le_refl 8) (by decide)) cc9)
          refine lv_iload_n hx hb dX1_canForce_138 rfl (lv_at hl 1 rfl) ?_
          refine lv_iload_n hx hb dX1_canForce_139 rfl (lv_at hl 3 rfl) ?_
          refine lv_ishr hx hb dX1_canForce_140 ?_
          refine lv_iconst (v := 1) hx hb dX1_canForce_141 (by decide) ?_
          refine lv_iand hx hb dX1_canForce_142 ?_
          refine lv_iconst (v := 1) hx hb dX1_canForce_143 (by decide) ?_
          refine lv_icmp_ne (tgt := 151) hx hb dX1_canForce_144 (by decide) (fun c144 => ?_) (fun c144 => ?_)
          · refine lv_iconst (v := 0) hx hb dX1_canForce_151 (by decide) ?_
            exact hret _ _ _ _ _ (O, C, F, S, R, kn, wi) dX1_canForce_152 (Or.inl rfl) ⟨Or.inr ⟨rfl, fun ⟨a2, b2, h1, h2, h3, h4, h5⟩ => c144 ((xb_t _ (by omega)).mpr (by rw [(nI_eq (by omega) (by omega)).mp h3, (nI_eq (by omega) (by omega)).mp h4]; exact h5))⟩, rfl⟩ hP hD hS
          · refine lv_iconst (v := 1) hx hb dX1_canForce_147 (by decide) ?_
            refine lv_goto (tgt := 152) hx hb dX1_canForce_148 (by decide) ?_
            exact hret _ _ _ _ _ (O, C, F, S, R, kn, wi) dX1_canForce_152 (Or.inr rfl) ⟨Or.inl ⟨rfl, a, b, ha9, hb9, rfl, rfl, (xb_t _ (by omega)).mp c144⟩, rfl⟩ hP hD hS
        | succ n ih =>
          intro k hk ls hl
          refine lv_iload hx hb dX1_canForce_25 (lv_at hl 0 rfl) ?_
          refine lv_bipush (v := nI 8) hx hb dX1_canForce_27 (by decide) ?_
          refine lv_icmp_ge (tgt := 138) hx hb dX1_canForce_29 (by decide) (fun cc9 => absurd cc9 (nI_ge (by omega) (by decide))) (fun _ => ?_)
          refine lv_iconst (v := 0) hx hb dX1_canForce_32 (by decide) ?_
          refine lv_istore (lv' := [(5, .int 0), (4, .int (nI k)), (3, .int (tco O F S ((1 : Int32) <<< (nI b &&& 31)) k)), (0, .ref (ad 0)), (1, .int (nI a)), (2, .int (nI b))]) hx hb dX1_canForce_33 hl (by decide) rfl (fun ls hl => ?_)
          have lpi : ∀ (n2 q : Nat), q + n2 = 8 → ∀ (ls : Array Slot), lv_has ls 8 [(5, .int (nI q)), (3, .int (tci O F S (tco O F S ((1 : Int32) <<< (nI b &&& 31)) k) q)), (4, .int (nI k)), (0, .ref (ad 0)), (1, .int (nI a)), (2, .int (nI b))] → W p l e { frames := 1, cells := 0, slots := 0, locals := 21 } s m ([.ref (ad 0), .int (nI a), .int (nI b)] : List Value).toArray below meth c H locs 0 0 Q (F0 m 35 ls []) := by
            intro n2
            induction n2 with
            | zero =>
              intro q hq ls hl
              obtain rfl : q = 8 := by omega
              refine lv_iload hx hb dX1_canForce_35 (lv_at hl 0 rfl) ?_
              refine lv_bipush (v := nI 8) hx hb dX1_canForce_37 (by decide) ?_
              refine lv_icmp_ge (tgt := 132) hx hb dX1_canForce_39 (by decide) (fun _ => ?_) (fun cc9 => absurd (nI_le (Nat.le_refl 8) (by decide)) cc9)
              refine lv_iinc (v := nI (k + 1)) (lv' := [(4, .int (nI (k + 1))), (5, .int (nI 8)), (3, .int (tci O F S (tco O F S ((1 : Int32) <<< (nI b &&& 31)) k) 8)), (0, .ref (ad 0)), (1, .int (nI a)), (2, .int (nI b))]) hx hb dX1_canForce_132 hl (k := 2) rfl (nI_i1 _) (by decide) rfl (fun ls hl => ?_)
              refine lv_goto (tgt := 25) hx hb dX1_canForce_135 (by decide) ?_
              exact ih (k + 1) (by omega) ls (lv_sub hl [0, 2, 3, 4, 5] rfl)
            | succ n2 ih2 =>
              intro q hq ls hl
              refine lv_iload hx hb dX1_canForce_35 (lv_at hl 0 rfl) ?_
              refine lv_bipush (v := nI 8) hx hb dX1_canForce_37 (by decide) ?_
              refine lv_icmp_ge (tgt := 132) hx hb dX1_canForce_39 (by decide) (fun cc9 => absurd cc9 (nI_ge (by omega) (by decide))) (fun _ => ?_)
              refine lv_iload_n hx hb dX1_canForce_42 rfl (lv_at hl 1 rfl) ?_
              refine lv_aload_n hx hb dX1_canForce_43 rfl (lv_at hl 3 rfl) ?_
              refine x_g1 2 16 hx hb hown hts hK hP (by decide) q178 rfl rfl dX1_canForce_44 ?_
              refine lv_iload hx hb dX1_canForce_47 (lv_at hl 0 rfl) ?_
              refine x_ald q rfl 3 (by omega) (by decide) hx hb hK hP rfl dX1_canForce_49 ?_
              refine lv_ishr hx hb dX1_canForce_50 ?_
              refine lv_iconst (v := 1) hx hb dX1_canForce_51 (by decide) ?_
              refine lv_iand hx hb dX1_canForce_52 ?_
              refine lv_iconst (v := 1) hx hb dX1_canForce_53 (by decide) ?_
              refine lv_icmp_ne (tgt := 61) hx hb dX1_canForce_54 (by decide) (fun c54 => ?_) (fun c54 => ?_)
              · refine lv_iconst (v := 0) hx hb dX1_canForce_61 (by decide) ?_
                refine lv_istore (lv' := [(6, .int 0), (5, .int (nI q)), (3, .int (tci O F S (tco O F S ((1 : Int32) <<< (nI b &&& 31)) k) q)), (4, .int (nI k)), (0, .ref (ad 0)), (1, .int (nI a)), (2, .int (nI b))]) hx hb dX1_canForce_62 hl (by decide) rfl (fun ls hl => ?_)
                refine lv_iload_n hx hb dX1_canForce_64 rfl (lv_at hl 2 rfl) ?_
                refine lv_aload_n hx hb dX1_canForce_65 rfl (lv_at hl 4 rfl) ?_
                refine x_g1 3 19 hx hb hown hts hK hP (by decide) q179 rfl rfl dX1_canForce_66 ?_
                refine lv_iload hx hb dX1_canForce_69 (lv_at hl 1 rfl) ?_
                refine x_ald q rfl 4 (by omega) (by decide) hx hb hK hP rfl dX1_canForce_71 ?_
                refine lv_ishr hx hb dX1_canForce_72 ?_
                refine lv_iconst (v := 1) hx hb dX1_canForce_73 (by decide) ?_
                refine lv_iand hx hb dX1_canForce_74 ?_
                refine lv_iconst (v := 1) hx hb dX1_canForce_75 (by decide) ?_
                refine lv_icmp_ne (tgt := 83) hx hb dX1_canForce_76 (by decide) (fun c76 => ?_) (fun c76 => ?_)
                · refine lv_iconst (v := 0) hx hb dX1_canForce_83 (by decide) ?_
                  refine lv_istore (lv' := [(7, .int 0), (6, .int 0), (5, .int (nI q)), (3, .int (tci O F S (tco O F S ((1 : Int32) <<< (nI b &&& 31)) k) q)), (4, .int (nI k)), (0, .ref (ad 0)), (1, .int (nI a)), (2, .int (nI b))]) hx hb dX1_canForce_84 hl (by decide) rfl (fun ls hl => ?_)
                  refine lv_aload_n hx hb dX1_canForce_86 rfl (lv_at hl 5 rfl) ?_
                  refine x_g1 0 7 hx hb hown hts hK hP (by decide) q176 rfl rfl dX1_canForce_87 ?_
                  refine lv_iload hx hb dX1_canForce_90 (lv_at hl 2 rfl) ?_
                  refine x_ald q rfl 1 (by omega) (by decide) hx hb hK hP rfl dX1_canForce_92 ?_
                  refine lv_if_ne (tgt := 109) hx hb dX1_canForce_93 (by decide) (fun c93 => ?_) (fun c93 => ?_)
                  · refine lv_iload hx hb dX1_canForce_109 (lv_at hl 1 rfl) ?_
                    refine lv_if_eq (tgt := 126) hx hb dX1_canForce_111 (by decide) (fun _ => ?_) (fun cc9 => absurd (by decide) cc9)
                    refine lv_iinc (v := nI (q + 1)) (lv' := [(5, .int (nI (q + 1))), (7, .int 0), (6, .int 0), (3, .int (tci O F S (tco O F S ((1 : Int32) <<< (nI b &&& 31)) k) q)), (4, .int (nI k)), (0, .ref (ad 0)), (1, .int (nI a)), (2, .int (nI b))]) hx hb dX1_canForce_126 hl (k := 2) rfl (nI_i1 _) (by decide) rfl (fun ls hl => ?_)
                    refine lv_goto (tgt := 35) hx hb dX1_canForce_129 (by decide) ?_
                    have e9 : tci O F S (tco O F S ((1 : Int32) <<< (nI b &&& 31)) k) (q + 1) = tci O F S (tco O F S ((1 : Int32) <<< (nI b &&& 31)) k) q := tci_f (fun h => h.elim (fun h => c93 h.1) (fun h => c54 h.2.1))
                    exact ih2 (q + 1) (by omega) ls (by rw [e9]; exact lv_sub hl [0, 3, 4, 5, 6, 7] rfl)
                  · refine lv_iload hx hb dX1_canForce_96 (lv_at hl 1 rfl) ?_
                    refine lv_if_ne (tgt := 119) hx hb dX1_canForce_98 (by decide) (fun cc9 => absurd (by decide) cc9) (fun _ => ?_)
                    refine lv_iload hx hb dX1_canForce_101 (lv_at hl 0 rfl) ?_
                    refine lv_if_eq (tgt := 126) hx hb dX1_canForce_103 (by decide) (fun _ => ?_) (fun cc9 => absurd (by decide) cc9)
                    refine lv_iinc (v := nI (q + 1)) (lv' := [(5, .int (nI (q + 1))), (7, .int 0), (6, .int 0), (3, .int (tci O F S (tco O F S ((1 : Int32) <<< (nI b &&& 31)) k) q)), (4, .int (nI k)), (0, .ref (ad 0)), (1, .int (nI a)), (2, .int (nI b))]) hx hb dX1_canForce_126 hl (k := 2) rfl (nI_i1 _) (by decide) rfl (fun ls hl => ?_)
                    refine lv_goto (tgt := 35) hx hb dX1_canForce_129 (by decide) ?_
                    have e9 : tci O F S (tco O F S ((1 : Int32) <<< (nI b &&& 31)) k) (q + 1) = tci O F S (tco O F S ((1 : Int32) <<< (nI b &&& 31)) k) q := tci_f (fun h => h.elim (fun h => h.2.elim c54 c76) (fun h => h.1 c93))
                    exact ih2 (q + 1) (by omega) ls (by rw [e9]; exact lv_sub hl [0, 3, 4, 5, 6, 7] rfl)
                · refine lv_iconst (v := 1) hx hb dX1_canForce_79 (by decide) ?_
                  refine lv_goto (tgt := 84) hx hb dX1_canForce_80 (by decide) ?_
                  refine lv_istore (lv' := [(7, .int 1), (6, .int 0), (5, .int (nI q)), (3, .int (tci O F S (tco O F S ((1 : Int32) <<< (nI b &&& 31)) k) q)), (4, .int (nI k)), (0, .ref (ad 0)), (1, .int (nI a)), (2, .int (nI b))]) hx hb dX1_canForce_84 hl (by decide) rfl (fun ls hl => ?_)
                  refine lv_aload_n hx hb dX1_canForce_86 rfl (lv_at hl 5 rfl) ?_
                  refine x_g1 0 7 hx hb hown hts hK hP (by decide) q176 rfl rfl dX1_canForce_87 ?_
                  refine lv_iload hx hb dX1_canForce_90 (lv_at hl 2 rfl) ?_
                  refine x_ald q rfl 1 (by omega) (by decide) hx hb hK hP rfl dX1_canForce_92 ?_
                  refine lv_if_ne (tgt := 109) hx hb dX1_canForce_93 (by decide) (fun c93 => ?_) (fun c93 => ?_)
                  · refine lv_iload hx hb dX1_canForce_109 (lv_at hl 1 rfl) ?_
                    refine lv_if_eq (tgt := 126) hx hb dX1_canForce_111 (by decide) (fun _ => ?_) (fun cc9 => absurd (by decide) cc9)
                    refine lv_iinc (v := nI (q + 1)) (lv' := [(5, .int (nI (q + 1))), (7, .int 1), (6, .int 0), (3, .int (tci O F S (tco O F S ((1 : Int32) <<< (nI b &&& 31)) k) q)), (4, .int (nI k)), (0, .ref (ad 0)), (1, .int (nI a)), (2, .int (nI b))]) hx hb dX1_canForce_126 hl (k := 2) rfl (nI_i1 _) (by decide) rfl (fun ls hl => ?_)
                    refine lv_goto (tgt := 35) hx hb dX1_canForce_129 (by decide) ?_
                    have e9 : tci O F S (tco O F S ((1 : Int32) <<< (nI b &&& 31)) k) (q + 1) = tci O F S (tco O F S ((1 : Int32) <<< (nI b &&& 31)) k) q := tci_f (fun h => h.elim (fun h => c93 h.1) (fun h => c54 h.2.1))
                    exact ih2 (q + 1) (by omega) ls (by rw [e9]; exact lv_sub hl [0, 3, 4, 5, 6, 7] rfl)
                  · refine lv_iload hx hb dX1_canForce_96 (lv_at hl 1 rfl) ?_
                    refine lv_if_ne (tgt := 119) hx hb dX1_canForce_98 (by decide) (fun cc9 => absurd (by decide) cc9) (fun _ => ?_)
                    refine lv_iload hx hb dX1_canForce_101 (lv_at hl 0 rfl) ?_
                    refine lv_if_eq (tgt := 126) hx hb dX1_canForce_103 (by decide) (fun cc9 => absurd cc9 (by decide)) (fun _ => ?_)
                    refine lv_goto (tgt := 119) hx hb dX1_canForce_106 (by decide) ?_
                    refine lv_iload_n hx hb dX1_canForce_119 rfl (lv_at hl 3 rfl) ?_
                    refine lv_iconst (v := 1) hx hb dX1_canForce_120 (by decide) ?_
                    refine lv_iload hx hb dX1_canForce_121 (lv_at hl 2 rfl) ?_
                    refine lv_ishl hx hb dX1_canForce_123 ?_
                    refine lv_ior hx hb dX1_canForce_124 ?_
                    refine lv_istore_n (lv' := [(3, .int ((tci O F S (tco O F S ((1 : Int32) <<< (nI b &&& 31)) k) q) ||| ((1 : Int32) <<< ((nI q) &&& 31)))), (7, .int 1), (6, .int 0), (5, .int (nI q)), (4, .int (nI k)), (0, .ref (ad 0)), (1, .int (nI a)), (2, .int (nI b))]) hx hb dX1_canForce_125 rfl hl (by decide) rfl (fun ls hl => ?_)
                    refine lv_iinc (v := nI (q + 1)) (lv' := [(5, .int (nI (q + 1))), (3, .int ((tci O F S (tco O F S ((1 : Int32) <<< (nI b &&& 31)) k) q) ||| ((1 : Int32) <<< ((nI q) &&& 31)))), (7, .int 1), (6, .int 0), (4, .int (nI k)), (0, .ref (ad 0)), (1, .int (nI a)), (2, .int (nI b))]) hx hb dX1_canForce_126 hl (k := 3) rfl (nI_i1 _) (by decide) rfl (fun ls hl => ?_)
                    refine lv_goto (tgt := 35) hx hb dX1_canForce_129 (by decide) ?_
                    have e9 : tci O F S (tco O F S ((1 : Int32) <<< (nI b &&& 31)) k) (q + 1) = (tci O F S (tco O F S ((1 : Int32) <<< (nI b &&& 31)) k) q) ||| ((1 : Int32) <<< ((nI q) &&& 31)) := tci_t (Or.inl ⟨c93, Or.inr c76⟩)
                    exact ih2 (q + 1) (by omega) ls (by rw [e9]; exact lv_sub hl [0, 1, 4, 5, 6, 7] rfl)
              · refine lv_iconst (v := 1) hx hb dX1_canForce_57 (by decide) ?_
                refine lv_goto (tgt := 62) hx hb dX1_canForce_58 (by decide) ?_
                refine lv_istore (lv' := [(6, .int 1), (5, .int (nI q)), (3, .int (tci O F S (tco O F S ((1 : Int32) <<< (nI b &&& 31)) k) q)), (4, .int (nI k)), (0, .ref (ad 0)), (1, .int (nI a)), (2, .int (nI b))]) hx hb dX1_canForce_62 hl (by decide) rfl (fun ls hl => ?_)
                refine lv_iload_n hx hb dX1_canForce_64 rfl (lv_at hl 2 rfl) ?_
                refine lv_aload_n hx hb dX1_canForce_65 rfl (lv_at hl 4 rfl) ?_
                refine x_g1 3 19 hx hb hown hts hK hP (by decide) q179 rfl rfl dX1_canForce_66 ?_
                refine lv_iload hx hb dX1_canForce_69 (lv_at hl 1 rfl) ?_
                refine x_ald q rfl 4 (by omega) (by decide) hx hb hK hP rfl dX1_canForce_71 ?_
                refine lv_ishr hx hb dX1_canForce_72 ?_
                refine lv_iconst (v := 1) hx hb dX1_canForce_73 (by decide) ?_
                refine lv_iand hx hb dX1_canForce_74 ?_
                refine lv_iconst (v := 1) hx hb dX1_canForce_75 (by decide) ?_
                refine lv_icmp_ne (tgt := 83) hx hb dX1_canForce_76 (by decide) (fun c76 => ?_) (fun c76 => ?_)
                · refine lv_iconst (v := 0) hx hb dX1_canForce_83 (by decide) ?_
                  refine lv_istore (lv' := [(7, .int 0), (6, .int 1), (5, .int (nI q)), (3, .int (tci O F S (tco O F S ((1 : Int32) <<< (nI b &&& 31)) k) q)), (4, .int (nI k)), (0, .ref (ad 0)), (1, .int (nI a)), (2, .int (nI b))]) hx hb dX1_canForce_84 hl (by decide) rfl (fun ls hl => ?_)
                  refine lv_aload_n hx hb dX1_canForce_86 rfl (lv_at hl 5 rfl) ?_
                  refine x_g1 0 7 hx hb hown hts hK hP (by decide) q176 rfl rfl dX1_canForce_87 ?_
                  refine lv_iload hx hb dX1_canForce_90 (lv_at hl 2 rfl) ?_
                  refine x_ald q rfl 1 (by omega) (by decide) hx hb hK hP rfl dX1_canForce_92 ?_
                  refine lv_if_ne (tgt := 109) hx hb dX1_canForce_93 (by decide) (fun c93 => ?_) (fun c93 => ?_)
                  · refine lv_iload hx hb dX1_canForce_109 (lv_at hl 1 rfl) ?_
                    refine lv_if_eq (tgt := 126) hx hb dX1_canForce_111 (by decide) (fun cc9 => absurd cc9 (by decide)) (fun _ => ?_)
                    refine lv_iload hx hb dX1_canForce_114 (lv_at hl 0 rfl) ?_
                    refine lv_if_eq (tgt := 126) hx hb dX1_canForce_116 (by decide) (fun _ => ?_) (fun cc9 => absurd (by decide) cc9)
                    refine lv_iinc (v := nI (q + 1)) (lv' := [(5, .int (nI (q + 1))), (7, .int 0), (6, .int 1), (3, .int (tci O F S (tco O F S ((1 : Int32) <<< (nI b &&& 31)) k) q)), (4, .int (nI k)), (0, .ref (ad 0)), (1, .int (nI a)), (2, .int (nI b))]) hx hb dX1_canForce_126 hl (k := 2) rfl (nI_i1 _) (by decide) rfl (fun ls hl => ?_)
                    refine lv_goto (tgt := 35) hx hb dX1_canForce_129 (by decide) ?_
                    have e9 : tci O F S (tco O F S ((1 : Int32) <<< (nI b &&& 31)) k) (q + 1) = tci O F S (tco O F S ((1 : Int32) <<< (nI b &&& 31)) k) q := tci_f (fun h => h.elim (fun h => c93 h.1) (fun h => c76 h.2.2))
                    exact ih2 (q + 1) (by omega) ls (by rw [e9]; exact lv_sub hl [0, 3, 4, 5, 6, 7] rfl)
                  · refine lv_iload hx hb dX1_canForce_96 (lv_at hl 1 rfl) ?_
                    refine lv_if_ne (tgt := 119) hx hb dX1_canForce_98 (by decide) (fun _ => ?_) (fun cc9 => absurd cc9 (by decide))
                    refine lv_iload_n hx hb dX1_canForce_119 rfl (lv_at hl 3 rfl) ?_
                    refine lv_iconst (v := 1) hx hb dX1_canForce_120 (by decide) ?_
                    refine lv_iload hx hb dX1_canForce_121 (lv_at hl 2 rfl) ?_
                    refine lv_ishl hx hb dX1_canForce_123 ?_
                    refine lv_ior hx hb dX1_canForce_124 ?_
                    refine lv_istore_n (lv' := [(3, .int ((tci O F S (tco O F S ((1 : Int32) <<< (nI b &&& 31)) k) q) ||| ((1 : Int32) <<< ((nI q) &&& 31)))), (7, .int 0), (6, .int 1), (5, .int (nI q)), (4, .int (nI k)), (0, .ref (ad 0)), (1, .int (nI a)), (2, .int (nI b))]) hx hb dX1_canForce_125 rfl hl (by decide) rfl (fun ls hl => ?_)
                    refine lv_iinc (v := nI (q + 1)) (lv' := [(5, .int (nI (q + 1))), (3, .int ((tci O F S (tco O F S ((1 : Int32) <<< (nI b &&& 31)) k) q) ||| ((1 : Int32) <<< ((nI q) &&& 31)))), (7, .int 0), (6, .int 1), (4, .int (nI k)), (0, .ref (ad 0)), (1, .int (nI a)), (2, .int (nI b))]) hx hb dX1_canForce_126 hl (k := 3) rfl (nI_i1 _) (by decide) rfl (fun ls hl => ?_)
                    refine lv_goto (tgt := 35) hx hb dX1_canForce_129 (by decide) ?_
                    have e9 : tci O F S (tco O F S ((1 : Int32) <<< (nI b &&& 31)) k) (q + 1) = (tci O F S (tco O F S ((1 : Int32) <<< (nI b &&& 31)) k) q) ||| ((1 : Int32) <<< ((nI q) &&& 31)) := tci_t (Or.inl ⟨c93, Or.inl c54⟩)
                    exact ih2 (q + 1) (by omega) ls (by rw [e9]; exact lv_sub hl [0, 1, 4, 5, 6, 7] rfl)
                · refine lv_iconst (v := 1) hx hb dX1_canForce_79 (by decide) ?_
                  refine lv_goto (tgt := 84) hx hb dX1_canForce_80 (by decide) ?_
                  refine lv_istore (lv' := [(7, .int 1), (6, .int 1), (5, .int (nI q)), (3, .int (tci O F S (tco O F S ((1 : Int32) <<< (nI b &&& 31)) k) q)), (4, .int (nI k)), (0, .ref (ad 0)), (1, .int (nI a)), (2, .int (nI b))]) hx hb dX1_canForce_84 hl (by decide) rfl (fun ls hl => ?_)
                  refine lv_aload_n hx hb dX1_canForce_86 rfl (lv_at hl 5 rfl) ?_
                  refine x_g1 0 7 hx hb hown hts hK hP (by decide) q176 rfl rfl dX1_canForce_87 ?_
                  refine lv_iload hx hb dX1_canForce_90 (lv_at hl 2 rfl) ?_
                  refine x_ald q rfl 1 (by omega) (by decide) hx hb hK hP rfl dX1_canForce_92 ?_
                  refine lv_if_ne (tgt := 109) hx hb dX1_canForce_93 (by decide) (fun c93 => ?_) (fun c93 => ?_)
                  · refine lv_iload hx hb dX1_canForce_109 (lv_at hl 1 rfl) ?_
                    refine lv_if_eq (tgt := 126) hx hb dX1_canForce_111 (by decide) (fun cc9 => absurd cc9 (by decide)) (fun _ => ?_)
                    refine lv_iload hx hb dX1_canForce_114 (lv_at hl 0 rfl) ?_
                    refine lv_if_eq (tgt := 126) hx hb dX1_canForce_116 (by decide) (fun cc9 => absurd cc9 (by decide)) (fun _ => ?_)
                    refine lv_iload_n hx hb dX1_canForce_119 rfl (lv_at hl 3 rfl) ?_
                    refine lv_iconst (v := 1) hx hb dX1_canForce_120 (by decide) ?_
                    refine lv_iload hx hb dX1_canForce_121 (lv_at hl 2 rfl) ?_
                    refine lv_ishl hx hb dX1_canForce_123 ?_
                    refine lv_ior hx hb dX1_canForce_124 ?_
                    refine lv_istore_n (lv' := [(3, .int ((tci O F S (tco O F S ((1 : Int32) <<< (nI b &&& 31)) k) q) ||| ((1 : Int32) <<< ((nI q) &&& 31)))), (7, .int 1), (6, .int 1), (5, .int (nI q)), (4, .int (nI k)), (0, .ref (ad 0)), (1, .int (nI a)), (2, .int (nI b))]) hx hb dX1_canForce_125 rfl hl (by decide) rfl (fun ls hl => ?_)
                    refine lv_iinc (v := nI (q + 1)) (lv' := [(5, .int (nI (q + 1))), (3, .int ((tci O F S (tco O F S ((1 : Int32) <<< (nI b &&& 31)) k) q) ||| ((1 : Int32) <<< ((nI q) &&& 31)))), (7, .int 1), (6, .int 1), (4, .int (nI k)), (0, .ref (ad 0)), (1, .int (nI a)), (2, .int (nI b))]) hx hb dX1_canForce_126 hl (k := 3) rfl (nI_i1 _) (by decide) rfl (fun ls hl => ?_)
                    refine lv_goto (tgt := 35) hx hb dX1_canForce_129 (by decide) ?_
                    have e9 : tci O F S (tco O F S ((1 : Int32) <<< (nI b &&& 31)) k) (q + 1) = (tci O F S (tco O F S ((1 : Int32) <<< (nI b &&& 31)) k) q) ||| ((1 : Int32) <<< ((nI q) &&& 31)) := tci_t (Or.inr ⟨c93, c54, c76⟩)
                    exact ih2 (q + 1) (by omega) ls (by rw [e9]; exact lv_sub hl [0, 1, 4, 5, 6, 7] rfl)
                  · refine lv_iload hx hb dX1_canForce_96 (lv_at hl 1 rfl) ?_
                    refine lv_if_ne (tgt := 119) hx hb dX1_canForce_98 (by decide) (fun _ => ?_) (fun cc9 => absurd cc9 (by decide))
                    refine lv_iload_n hx hb dX1_canForce_119 rfl (lv_at hl 3 rfl) ?_
                    refine lv_iconst (v := 1) hx hb dX1_canForce_120 (by decide) ?_
                    refine lv_iload hx hb dX1_canForce_121 (lv_at hl 2 rfl) ?_
                    refine lv_ishl hx hb dX1_canForce_123 ?_
                    refine lv_ior hx hb dX1_canForce_124 ?_
                    refine lv_istore_n (lv' := [(3, .int ((tci O F S (tco O F S ((1 : Int32) <<< (nI b &&& 31)) k) q) ||| ((1 : Int32) <<< ((nI q) &&& 31)))), (7, .int 1), (6, .int 1), (5, .int (nI q)), (4, .int (nI k)), (0, .ref (ad 0)), (1, .int (nI a)), (2, .int (nI b))]) hx hb dX1_canForce_125 rfl hl (by decide) rfl (fun ls hl => ?_)
                    refine lv_iinc (v := nI (q + 1)) (lv' := [(5, .int (nI (q + 1))), (3, .int ((tci O F S (tco O F S ((1 : Int32) <<< (nI b &&& 31)) k) q) ||| ((1 : Int32) <<< ((nI q) &&& 31)))), (7, .int 1), (6, .int 1), (4, .int (nI k)), (0, .ref (ad 0)), (1, .int (nI a)), (2, .int (nI b))]) hx hb dX1_canForce_126 hl (k := 3) rfl (nI_i1 _) (by decide) rfl (fun ls hl => ?_)
                    refine lv_goto (tgt := 35) hx hb dX1_canForce_129 (by decide) ?_
                    have e9 : tci O F S (tco O F S ((1 : Int32) <<< (nI b &&& 31)) k) (q + 1) = (tci O F S (tco O F S ((1 : Int32) <<< (nI b &&& 31)) k) q) ||| ((1 : Int32) <<< ((nI q) &&& 31)) := tci_t (Or.inl ⟨c93, Or.inl c54⟩)
                    exact ih2 (q + 1) (by omega) ls (by rw [e9]; exact lv_sub hl [0, 1, 4, 5, 6, 7] rfl)
          exact lpi 8 0 rfl ls (lv_sub hl [0, 2, 1, 3, 4, 5] rfl)
      exact lpo 8 0 rfl ls (lv_sub hl [0, 1, 2, 3, 4] rfl)
set_option maxHeartbeats 4000000 in
set_option maxRecDepth 100000 in
theorem m1_contested (l : Launch) (D : va_G) (ad : Nat → Nat) (d : ClassId) (kn wi : Int32) (O C F S R : Nat → Int32) (own col f1 f2 : Nat → Nat) (hg : tv own col f1 f2 O C F S) (hkc : kc own col f1 f2 kn wi) : CI l yX1_contested cX1_contested 4 (some .int) 4 98 D d [.ref (ad 0)] (wM ad d O C F S R kn wi) (fun r (u : MSt) => r = nI (cns own col f1 f2 8) ∧ tvu own col f1 f2 u) (fun (u : MSt) => wMu ad d u) := by
  refine CI_of (by decide) (Nat.le_of_ble_eq_true rfl) (fun p e s m below meth c A Q ls E hret => ?_)
  obtain ⟨hx, hb, hml, hown, hts, hA, hK, hP, hD, hS, hl⟩ := E
  have hown : s.vm.findClass RX1 = some m.cls := hown
  have hl : lv_has ls 4 [(0, .ref (ad 0))] := hl
  refine lv_aload_n hx hb dX1_contested_0 rfl (lv_at hl 0 rfl) ?_
  refine x_vi [] [] 0 (m1_region l D ad d kn wi O C F S R own col f1 f2 hg hkc) hx hb hml hown hts hA hK hP hD hS (lw_V q226 q227 q228 q22 q229) (by decide +kernel) rfl ⟨Nat.le_of_ble_eq_true rfl, Nat.le_of_ble_eq_true rfl⟩ rfl rfl rfl rfl hl.1 (Nat.le_of_ble_eq_true rfl) ⟨Nat.zero_le _, Nat.zero_le _⟩ dX1_contested_1 (fun x0 u H locs hw hP hD hS => ?_)
  obtain ⟨O1, C1, F1, S1, R1, kn1, wi1⟩ := u
  obtain ⟨hr0, hg1, hk1⟩ := hw
  have hg1 : tv own col f1 f2 O1 C1 F1 S1 := hg1
  have hk1 : kc own col f1 f2 kn1 wi1 := hk1
  have hP : va_P D vwCl (wM ad d O1 C1 F1 S1 R1 kn1 wi1) H := hP
  have hD : va_D A (wM ad d O1 C1 F1 S1 R1 kn1 wi1) := hD
  refine lv_istore_n (lv' := [(1, .int x0), (0, .ref (ad 0))]) hx hb dX1_contested_4 rfl hl (by decide) rfl (fun ls hl => ?_)
  refine lv_iconst (v := 0) hx hb dX1_contested_5 (by decide) ?_
  refine lv_istore_n (lv' := [(2, .int 0), (1, .int x0), (0, .ref (ad 0))]) hx hb dX1_contested_6 rfl hl (by decide) rfl (fun ls hl => ?_)
  refine lv_iconst (v := 0) hx hb dX1_contested_7 (by decide) ?_
  refine lv_istore_n (lv' := [(3, .int 0), (2, .int 0), (1, .int x0), (0, .ref (ad 0))]) hx hb dX1_contested_8 rfl hl (by decide) rfl (fun ls hl => ?_)
  have lp : ∀ (n k : Nat) (R : Nat → Int32), k + n = 8 → ∀ (H : Heap) (locs : List Loc) (ls : Array Slot), va_P D vwCl (wM ad d O1 C1 F1 S1 R kn1 wi1) H → va_D A (wM ad d O1 C1 F1 S1 R kn1 wi1) → va_S A s.heap H locs → lv_has ls 4 [(3, .int (nI k)), (2, .int (nI (cns own col f1 f2 k))), (1, .int x0), (0, .ref (ad 0))] → W p l e { frames := 4, cells := 0, slots := 0, locals := 98 } s m ([.ref (ad 0)] : List Value).toArray below meth c H locs 0 0 Q (F0 m 9 ls []) := by
    intro n
    induction n with
    | zero =>
      intro k R hk H locs ls hP hD hS hl
      obtain rfl : k = 8 := by omega
      refine lv_iload_n hx hb dX1_contested_9 rfl (lv_at hl 0 rfl) ?_
      refine lv_bipush (v := nI 8) hx hb dX1_contested_10 (by decide) ?_
      refine lv_icmp_ge (tgt := 60) hx hb dX1_contested_12 (by decide) (fun _ => ?_) (fun cc9 => absurd (nI_le (Nat.le_refl 8) (by decide)) cc9)
      refine lv_iload_n hx hb dX1_contested_60 rfl (lv_at hl 1 rfl) ?_
      exact hret _ _ _ _ _ (O1, C1, F1, S1, R, kn1, wi1) dX1_contested_61 ⟨rfl, hg1, hk1⟩ hP hD hS
    | succ n ih =>
      intro k R hk H locs ls hP hD hS hl
      refine lv_iload_n hx hb dX1_contested_9 rfl (lv_at hl 0 rfl) ?_
      refine lv_bipush (v := nI 8) hx hb dX1_contested_10 (by decide) ?_
      refine lv_icmp_ge (tgt := 60) hx hb dX1_contested_12 (by decide) (fun cc9 => absurd cc9 (nI_ge (by omega) (by decide))) (fun _ => ?_)
      refine lv_aload_n hx hb dX1_contested_15 rfl (lv_at hl 3 rfl) ?_
      refine x_g1 0 7 hx hb hown hts hK hP (by decide) q176 rfl rfl dX1_contested_16 ?_
      refine lv_iload_n hx hb dX1_contested_19 rfl (lv_at hl 0 rfl) ?_
      refine lv_iconst (v := 1) hx hb dX1_contested_20 (by decide) ?_
      refine lv_aload_n hx hb dX1_contested_21 rfl (lv_at hl 3 rfl) ?_
      refine x_g1 0 7 hx hb hown hts hK hP (by decide) q176 rfl rfl dX1_contested_22 ?_
      refine lv_iload_n hx hb dX1_contested_25 rfl (lv_at hl 0 rfl) ?_
      refine x_ald k rfl 1 (by omega) (by decide) hx hb hK hP rfl dX1_contested_26 ?_
      refine lv_isub hx hb dX1_contested_27 ?_
      rw [turn1 hg1 (by omega)]
      refine x_ast k rfl 1 (by omega) (by decide) hx hb hK hP hD hS rfl dX1_contested_28 (fun H locs hP hD hS => ?_)
      have hP : va_P D vwCl (wM ad d (upd O1 k (nI (1 - own k))) C1 F1 S1 R kn1 wi1) H := hP
      have hD : va_D A (wM ad d (upd O1 k (nI (1 - own k))) C1 F1 S1 R kn1 wi1) := hD
      refine lv_aload_n hx hb dX1_contested_29 rfl (lv_at hl 3 rfl) ?_
      refine x_vi [] [] 0 (m1_wonBy0 l D ad d kn1 wi1 (upd O1 k (nI (1 - own k))) C1 F1 S1 R (flip1 own k) col f1 f2 (tv_flip hg1 (by omega))) hx hb hml hown hts hA hK hP hD hS (lw_V q230 q232 qs17 q22 q233) (by decide +kernel) rfl ⟨Nat.le_of_ble_eq_true rfl, Nat.le_of_ble_eq_true rfl⟩ rfl rfl rfl rfl hl.1 (Nat.le_of_ble_eq_true rfl) ⟨Nat.zero_le _, Nat.zero_le _⟩ dX1_contested_30 (fun y R2 H locs hw hP hD hS => ?_)
      have hr2 := hw
      have hP : va_P D vwCl (wM ad d (upd O1 k (nI (1 - own k))) C1 F1 S1 R2 kn1 wi1) H := hP
      have hD : va_D A (wM ad d (upd O1 k (nI (1 - own k))) C1 F1 S1 R2 kn1 wi1) := hD
      refine lv_iload_n hx hb dX1_contested_33 rfl (lv_at hl 2 rfl) ?_
      refine lv_icmp_eq (tgt := 40) hx hb dX1_contested_34 (by decide) (fun c34 => ?_) (fun c34 => ?_)
      · refine lv_aload_n hx hb dX1_contested_40 rfl (lv_at hl 3 rfl) ?_
        refine x_g1 0 7 hx hb hown hts hK hP (by decide) q176 rfl rfl dX1_contested_41 ?_
        refine lv_iload_n hx hb dX1_contested_44 rfl (lv_at hl 0 rfl) ?_
        refine lv_iconst (v := 1) hx hb dX1_contested_45 (by decide) ?_
        refine lv_aload_n hx hb dX1_contested_46 rfl (lv_at hl 3 rfl) ?_
        refine x_g1 0 7 hx hb hown hts hK hP (by decide) q176 rfl rfl dX1_contested_47 ?_
        refine lv_iload_n hx hb dX1_contested_50 rfl (lv_at hl 0 rfl) ?_
        refine x_ald k rfl 1 (by omega) (by decide) hx hb hK hP rfl dX1_contested_51 ?_
        refine lv_isub hx hb dX1_contested_52 ?_
        refine x_ast k rfl 1 (by omega) (by decide) hx hb hK hP hD hS rfl dX1_contested_53 (fun H locs hP hD hS => ?_)
        have hP : va_P D vwCl (wM ad d (upd (upd O1 k (nI (1 - own k))) k (1 - ((upd O1 k (nI (1 - own k))) k))) C1 F1 S1 R2 kn1 wi1) H := hP
        have hD : va_D A (wM ad d (upd (upd O1 k (nI (1 - own k))) k (1 - ((upd O1 k (nI (1 - own k))) k))) C1 F1 S1 R2 kn1 wi1) := hD
        rw [turn2 hg1 (by omega)] at hP hD
        refine lv_iinc (v := nI (k + 1)) (lv' := [(3, .int (nI (k + 1))), (2, .int (nI (cns own col f1 f2 k))), (1, .int x0), (0, .ref (ad 0))]) hx hb dX1_contested_54 hl (k := 0) rfl (nI_i1 _) (by decide) rfl (fun ls hl => ?_)
        refine lv_goto (tgt := 9) hx hb dX1_contested_57 (by decide) ?_
        have e9 : cns own col f1 f2 (k + 1) = cns own col f1 f2 k := cns_f (fun h => (chg_iff hr0 hr2).mp h c34)
        exact ih (k + 1) _ (by omega) H locs ls hP hD hS (by rw [e9]; exact lv_sub hl [0, 1, 2, 3] rfl)
      · refine lv_iinc (v := nI ((cns own col f1 f2 k) + 1)) (lv' := [(2, .int (nI ((cns own col f1 f2 k) + 1))), (3, .int (nI k)), (1, .int x0), (0, .ref (ad 0))]) hx hb dX1_contested_37 hl (k := 1) rfl (nI_i1 _) (by decide) rfl (fun ls hl => ?_)
        refine lv_aload_n hx hb dX1_contested_40 rfl (lv_at hl 3 rfl) ?_
        refine x_g1 0 7 hx hb hown hts hK hP (by decide) q176 rfl rfl dX1_contested_41 ?_
        refine lv_iload_n hx hb dX1_contested_44 rfl (lv_at hl 1 rfl) ?_
        refine lv_iconst (v := 1) hx hb dX1_contested_45 (by decide) ?_
        refine lv_aload_n hx hb dX1_contested_46 rfl (lv_at hl 3 rfl) ?_
        refine x_g1 0 7 hx hb hown hts hK hP (by decide) q176 rfl rfl dX1_contested_47 ?_
        refine lv_iload_n hx hb dX1_contested_50 rfl (lv_at hl 1 rfl) ?_
        refine x_ald k rfl 1 (by omega) (by decide) hx hb hK hP rfl dX1_contested_51 ?_
        refine lv_isub hx hb dX1_contested_52 ?_
        refine x_ast k rfl 1 (by omega) (by decide) hx hb hK hP hD hS rfl dX1_contested_53 (fun H locs hP hD hS => ?_)
        have hP : va_P D vwCl (wM ad d (upd (upd O1 k (nI (1 - own k))) k (1 - ((upd O1 k (nI (1 - own k))) k))) C1 F1 S1 R2 kn1 wi1) H := hP
        have hD : va_D A (wM ad d (upd (upd O1 k (nI (1 - own k))) k (1 - ((upd O1 k (nI (1 - own k))) k))) C1 F1 S1 R2 kn1 wi1) := hD
        rw [turn2 hg1 (by omega)] at hP hD
        refine lv_iinc (v := nI (k + 1)) (lv' := [(3, .int (nI (k + 1))), (2, .int (nI ((cns own col f1 f2 k) + 1))), (1, .int x0), (0, .ref (ad 0))]) hx hb dX1_contested_54 hl (k := 1) rfl (nI_i1 _) (by decide) rfl (fun ls hl => ?_)
        refine lv_goto (tgt := 9) hx hb dX1_contested_57 (by decide) ?_
        have e9 : cns own col f1 f2 (k + 1) = cns own col f1 f2 k + 1 := cns_t ((chg_iff hr0 hr2).mpr c34)
        exact ih (k + 1) _ (by omega) H locs ls hP hD hS (by rw [e9]; exact lv_sub hl [0, 1, 2, 3] rfl)
  exact lp 8 0 _ rfl _ _ ls hP hD hS (lv_sub hl [0, 1, 2, 3] rfl)
end
section
/-! 18.init: printed by gen (walks) -/
set_option maxRecDepth 100000
/-- a constructor's contract: from the bare object to a world of made arrays -/
def CN (l : Launch) (y : MethodName) (cc : ByteArray) (mL : Nat) (rm : Room) (D : va_G) (av : List Value) (w : va_W) (mc ms : Nat) {S : Type} (post : S → Prop) (w1 : S → va_W) (dd : S → ClassId) : Prop :=
  ∀ sz : Nat, Met l y (ws_ y cc mL none) rm (va_Pc av (fun U => U.heap.size = sz ∧ va_P D vwCl w U.heap ∧ va_K D vwCl [] U ∧ va_D (fun _ => True) w)) (va_Qv post (fun u t => BW D (dd u) (va_A w sz) (w1 u) t) (va_A w sz)) mc ms (va_A w sz)
set_option maxHeartbeats 4000000 in
theorem CN_of {l : Launch} {y : MethodName} {cc : ByteArray} {mL : Nat} {rm : Room} {D : va_G} {av : List Value} {w : va_W} {mc ms : Nat} {S : Type} {post : S → Prop} {w1 : S → va_W} {dd : S → ClassId} (hy : plainName y.cls = true) (hm : (lg_sl av).length ≤ mL) (hyn : y.name = "<init>")
    (body : ∀ (p : Program) (e : Env) (s : State) (m : MethodId) (below : List Frame) (meth : Method) (c : Code) (A : Nat → Prop) (Q : State → Prop) (ls : Array Slot), p.tables.exec = Jvm.exec → c.code = cc → c.maxLocals = mL → s.vm.findClass y.cls = some m.cls → (∀ x ∈ lw_all, x.before av.toArray s = true) → (∀ q : Nat, s.heap.size ≤ q → A q) → va_K D vwCl [] s → va_P D vwCl w s.heap → va_D A w → va_S A s.heap s.heap [] → lv_has ls mL (lv_args 0 av) → meth.name = "<init>" →
      (∀ (H : Heap) (locs : List Loc) (pc : Nat) (ls : Array Slot) (u : S), decode cc pc = .ok (.return_, 1) → post u → va_K D vwCl [(dd u, .int)] s → va_P D vwCl (w1 u) H → va_D A (w1 u) → va_S A s.heap H locs → W p l e rm s m av.toArray below meth c H locs mc ms Q (F0 m pc ls [])) →
      W p l e rm s m av.toArray below meth c s.heap [] 0 0 Q (F0 m 0 ls [])) : CN l y cc mL rm D av w mc ms post w1 dd := by
  intro sz
  refine Met.ofW (cc := cc) (maxL := mL) (ret := none) hy rfl ?_
  intro p e s m args below meth c s₁ B hml hv
  obtain ⟨rfl, hsz, hP, hK, hD0⟩ := hv
  have hts := atoms_spec (ws := ws_ y cc mL none) B.pre
  have hts : ∀ w ∈ lw_all, w.before _ s = true := fun w h => hts w (List.mem_cons_of_mem _ h)
  have hown : s.vm.findClass y.cls = some m.cls := findClass_of_methodNamed B.named
  have hlocks := B.notSynchronized
  have hin : meth.name = "<init>" := (name_of_methodNamed B.named B.method).1.trans hyn
  subst hsz
  have hD := hD0.self (sz := s.heap.size)
  generalize hAe : va_A w s.heap.size = A at hD ⊢
  have hA : ∀ q : Nat, s.heap.size ≤ q → A q := fun q h => by rw [← hAe]; exact Or.inr h
  have hl := lv_entry av (n := mL) hm
  rw [lg_entry_eq]
  refine body p e s m below meth c A _ _ B.exec B.bytes hml hown hts hA hK hP hD va_S.rf hl hin ?_
  intro H locs pc ls u hdg hpost hK hP hD hS
  exact W.vret B.exec B.bytes B.returns (fun t ht hW => ⟨⟨u, rfl, hpost, by rw [ht]; exact hP, va_K.moved hW.alike hK, hD⟩, hS.F ht⟩) hS.2.2 hdg
/-- arrays of ints have one class -/
theorem cA_same {D : va_G} {tys : List (ClassId × FieldType)} {s : State} (hK : va_K D vwCl tys s) (i j : Nat) {a b : ClassId} (hi : tys[i]? = some (a, .int)) (hj : tys[j]? = some (b, .int)) : a = b := by
  have h1 := va_nm_int (hK.2 i _ hi).2
  have h2 := va_nm_int (hK.2 j _ hj).2
  exact Option.some.inj (h1.symm.trans h2)
/-- each position's own number, k of them -/
def idn : Nat → (Nat → Int32)
  | 0 => fun _ => 0
  | k + 1 => upd (idn k) k (nI k)
theorem idn_at : ∀ k q, q < k → idn k q = nI q := by
  intro k
  induction k with
  | zero => intro q h; exact absurd h (Nat.not_lt_zero _)
  | succ k ih =>
    intro q h
    show upd _ _ _ q = _
    by_cases e : q = k
    · subst e; rw [pk_us]
    · rw [pk_un e, ih q (by omega)]
theorem pg_ok0 : pg_ok (fun _ => 0) (fun _ => 0) (fun q => q) (fun q => q) := fun p hp => ⟨Nat.zero_le _, Nat.zero_le _, hp, hp⟩
theorem gv_0 : gv (fun _ => 0) (fun _ => 0) (fun q => q) (fun q => q) 0 (fun _ => 0) (idn 8) (idn 8) := ⟨pg_ok0, fun p hp => ⟨ow_bit (o := 0) hp (by decide) (by rw [b_0]; decide), rfl, idn_at 8 p hp, idn_at 8 p hp⟩⟩
theorem tv_0 : tv (fun _ => 0) (fun _ => 0) (fun q => q) (fun q => q) (fun _ => 0) (fun _ => 0) (idn 8) (idn 8) := ⟨pg_ok0, fun p hp => ⟨rfl, rfl, idn_at 8 p hp, idn_at 8 p hp⟩⟩
set_option maxHeartbeats 4000000 in
set_option maxRecDepth 100000 in
theorem m0_init (l : Launch) (D : va_G) (h0 : Nat) : CN l yX0_init cX0_init 2 { frames := 1, cells := 8, slots := 70, locals := 12 } D [.ref h0] [(h0, .inr (0, [.int 0, .null, .null, .null, .int 0, .null, .null, .null, .null, .null]))] 8 70 (fun (u : (Nat → Nat) × ClassId) => u.1 0 = h0) (fun u => wG u.1 u.2 0 0 (fun _ => 0) (idn 8) (idn 8) (fun _ => 0) (fun _ => 0) (fun _ => 0) (fun _ => 0) (fun _ => 0)) (fun u => u.2) := by
  refine CN_of (by decide) (Nat.le_of_ble_eq_true rfl) rfl (fun p e s m below meth c A Q ls hx hb hml hown hts hA hK hP hD hS hl hin hret => ?_)
  have hown : s.vm.findClass RX0 = some m.cls := hown
  have hl : lv_has ls 2 [(0, .ref h0)] := hl
  refine lv_aload_n hx hb dX0_init_0 rfl (lv_at hl 0 rfl) ?_
  refine W.objInit hx hb hown (hts _ q28) (hts _ q29) (hts _ q30) rfl (by rw [hml]; exact hl.1) rfl dX0_init_1 (Nat.le_of_ble_eq_true rfl) (Nat.le_of_ble_eq_true rfl) ?_
  refine W.eq (g2 := F0 m 4 ls []) rfl ?_
  refine lv_aload_n hx hb dX0_init_4 rfl (lv_at hl 0 rfl) ?_
  refine lv_bipush (v := nI 8) hx hb dX0_init_5 (by decide) ?_
  refine va_newa (atype := .int) (ty := .int) (a0 := (8, .inl (fun _ => 0))) (N' := 8) hx hb (hts _ q62) rfl hK hP hD hS hA (fun _ => rfl) (by decide) (by decide) (by decide) (Nat.le_of_ble_eq_true rfl) (Nat.le_of_ble_eq_true rfl) dX0_init_7 (fun q1_ d H hK hP hD hS => ?_)
  refine va_putF (D := D) (ci := 0) (v := .ref q1_) (ty := .array .int) (C := RX0) (T := TX0) (N := 10) hx hb hts in_X0 tyX0 tyX0_ok nmX0 hown hK hP hD hS 0 rfl rfl 1 (by decide) (hts _ q32) (fun _ h9 => h9) rfl hin rfl (by decide +kernel) rfl rfl (Nat.le_of_ble_eq_true rfl) dX0_init_9 (fun H locs hP hD hS => ?_)
  have hP : va_P D vwCl [(h0, .inr (0, [.int 0, .ref q1_, .null, .null, .int 0, .null, .null, .null, .null, .null])), (q1_, .inl (d, 8, .inl (fun _ => 0)))] H := hP
  have hD : va_D A [(h0, .inr (0, [.int 0, .ref q1_, .null, .null, .int 0, .null, .null, .null, .null, .null])), (q1_, .inl (d, 8, .inl (fun _ => 0)))] := hD
  have hK : va_K D vwCl [(d, .int)] s := hK
  refine lv_aload_n hx hb dX0_init_12 rfl (lv_at hl 0 rfl) ?_
  refine lv_bipush (v := nI 8) hx hb dX0_init_13 (by decide) ?_
  refine va_newa (atype := .int) (ty := .int) (a0 := (8, .inl (fun _ => 0))) (N' := 8) hx hb (hts _ q62) rfl hK hP hD hS hA (fun _ => rfl) (by decide) (by decide) (by decide) (Nat.le_of_ble_eq_true rfl) (Nat.le_of_ble_eq_true rfl) dX0_init_15 (fun q2_ d1 H hK hP hD hS => ?_)
  have hK : va_K D vwCl [(d, .int), (d1, .int)] s := hK
  obtain rfl : d1 = d := cA_same hK 1 0 rfl rfl
  have hK := hK.sub (tys' := [(d1, .int)]) [0] rfl
  refine va_putF (D := D) (ci := 0) (v := .ref q2_) (ty := .array .int) (C := RX0) (T := TX0) (N := 10) hx hb hts in_X0 tyX0 tyX0_ok nmX0 hown hK hP hD hS 0 rfl rfl 2 (by decide) (hts _ q33) (fun _ h9 => h9) rfl hin rfl (by decide +kernel) rfl rfl (Nat.le_of_ble_eq_true rfl) dX0_init_17 (fun H locs hP hD hS => ?_)
  have hP : va_P D vwCl [(h0, .inr (0, [.int 0, .ref q1_, .ref q2_, .null, .int 0, .null, .null, .null, .null, .null])), (q1_, .inl (d1, 8, .inl (fun _ => 0))), (q2_, .inl (d1, 8, .inl (fun _ => 0)))] H := hP
  have hD : va_D A [(h0, .inr (0, [.int 0, .ref q1_, .ref q2_, .null, .int 0, .null, .null, .null, .null, .null])), (q1_, .inl (d1, 8, .inl (fun _ => 0))), (q2_, .inl (d1, 8, .inl (fun _ => 0)))] := hD
  have hK : va_K D vwCl [(d1, .int)] s := hK
  obtain ⟨d, hdd⟩ : ∃ d, d = d1 := ⟨_, rfl⟩
  subst hdd
  refine lv_aload_n hx hb dX0_init_20 rfl (lv_at hl 0 rfl) ?_
  refine lv_bipush (v := nI 8) hx hb dX0_init_21 (by decide) ?_
  refine va_newa (atype := .int) (ty := .int) (a0 := (8, .inl (fun _ => 0))) (N' := 8) hx hb (hts _ q62) rfl hK hP hD hS hA (fun _ => rfl) (by decide) (by decide) (by decide) (Nat.le_of_ble_eq_true rfl) (Nat.le_of_ble_eq_true rfl) dX0_init_23 (fun q3_ d2 H hK hP hD hS => ?_)
  have hK : va_K D vwCl [(d, .int), (d2, .int)] s := hK
  obtain rfl : d2 = d := cA_same hK 1 0 rfl rfl
  have hK := hK.sub (tys' := [(d2, .int)]) [0] rfl
  refine va_putF (D := D) (ci := 0) (v := .ref q3_) (ty := .array .int) (C := RX0) (T := TX0) (N := 10) hx hb hts in_X0 tyX0 tyX0_ok nmX0 hown hK hP hD hS 0 rfl rfl 3 (by decide) (hts _ q34) (fun _ h9 => h9) rfl hin rfl (by decide +kernel) rfl rfl (Nat.le_of_ble_eq_true rfl) dX0_init_25 (fun H locs hP hD hS => ?_)
  have hP : va_P D vwCl [(h0, .inr (0, [.int 0, .ref q1_, .ref q2_, .ref q3_, .int 0, .null, .null, .null, .null, .null])), (q1_, .inl (d2, 8, .inl (fun _ => 0))), (q2_, .inl (d2, 8, .inl (fun _ => 0))), (q3_, .inl (d2, 8, .inl (fun _ => 0)))] H := hP
  have hD : va_D A [(h0, .inr (0, [.int 0, .ref q1_, .ref q2_, .ref q3_, .int 0, .null, .null, .null, .null, .null])), (q1_, .inl (d2, 8, .inl (fun _ => 0))), (q2_, .inl (d2, 8, .inl (fun _ => 0))), (q3_, .inl (d2, 8, .inl (fun _ => 0)))] := hD
  have hK : va_K D vwCl [(d2, .int)] s := hK
  obtain ⟨d, hdd⟩ : ∃ d, d = d2 := ⟨_, rfl⟩
  subst hdd
  refine lv_aload_n hx hb dX0_init_28 rfl (lv_at hl 0 rfl) ?_
  refine lv_bipush (v := nI 12) hx hb dX0_init_29 (by decide) ?_
  refine va_newa (atype := .int) (ty := .int) (a0 := (12, .inl (fun _ => 0))) (N' := 12) hx hb (hts _ q62) rfl hK hP hD hS hA (fun _ => rfl) (by decide) (by decide) (by decide) (Nat.le_of_ble_eq_true rfl) (Nat.le_of_ble_eq_true rfl) dX0_init_31 (fun q4_ d3 H hK hP hD hS => ?_)
  have hK : va_K D vwCl [(d, .int), (d3, .int)] s := hK
  obtain rfl : d3 = d := cA_same hK 1 0 rfl rfl
  have hK := hK.sub (tys' := [(d3, .int)]) [0] rfl
  refine va_putF (D := D) (ci := 0) (v := .ref q4_) (ty := .array .int) (C := RX0) (T := TX0) (N := 10) hx hb hts in_X0 tyX0 tyX0_ok nmX0 hown hK hP hD hS 0 rfl rfl 5 (by decide) (hts _ q36) (fun _ h9 => h9) rfl hin rfl (by decide +kernel) rfl rfl (Nat.le_of_ble_eq_true rfl) dX0_init_33 (fun H locs hP hD hS => ?_)
  have hP : va_P D vwCl [(h0, .inr (0, [.int 0, .ref q1_, .ref q2_, .ref q3_, .int 0, .ref q4_, .null, .null, .null, .null])), (q1_, .inl (d3, 8, .inl (fun _ => 0))), (q2_, .inl (d3, 8, .inl (fun _ => 0))), (q3_, .inl (d3, 8, .inl (fun _ => 0))), (q4_, .inl (d3, 12, .inl (fun _ => 0)))] H := hP
  have hD : va_D A [(h0, .inr (0, [.int 0, .ref q1_, .ref q2_, .ref q3_, .int 0, .ref q4_, .null, .null, .null, .null])), (q1_, .inl (d3, 8, .inl (fun _ => 0))), (q2_, .inl (d3, 8, .inl (fun _ => 0))), (q3_, .inl (d3, 8, .inl (fun _ => 0))), (q4_, .inl (d3, 12, .inl (fun _ => 0)))] := hD
  have hK : va_K D vwCl [(d3, .int)] s := hK
  obtain ⟨d, hdd⟩ : ∃ d, d = d3 := ⟨_, rfl⟩
  subst hdd
  refine lv_aload_n hx hb dX0_init_36 rfl (lv_at hl 0 rfl) ?_
  refine lv_bipush (v := nI 12) hx hb dX0_init_37 (by decide) ?_
  refine va_newa (atype := .int) (ty := .int) (a0 := (12, .inl (fun _ => 0))) (N' := 12) hx hb (hts _ q62) rfl hK hP hD hS hA (fun _ => rfl) (by decide) (by decide) (by decide) (Nat.le_of_ble_eq_true rfl) (Nat.le_of_ble_eq_true rfl) dX0_init_39 (fun q5_ d4 H hK hP hD hS => ?_)
  have hK : va_K D vwCl [(d, .int), (d4, .int)] s := hK
  obtain rfl : d4 = d := cA_same hK 1 0 rfl rfl
  have hK := hK.sub (tys' := [(d4, .int)]) [0] rfl
  refine va_putF (D := D) (ci := 0) (v := .ref q5_) (ty := .array .int) (C := RX0) (T := TX0) (N := 10) hx hb hts in_X0 tyX0 tyX0_ok nmX0 hown hK hP hD hS 0 rfl rfl 6 (by decide) (hts _ q37) (fun _ h9 => h9) rfl hin rfl (by decide +kernel) rfl rfl (Nat.le_of_ble_eq_true rfl) dX0_init_41 (fun H locs hP hD hS => ?_)
  have hP : va_P D vwCl [(h0, .inr (0, [.int 0, .ref q1_, .ref q2_, .ref q3_, .int 0, .ref q4_, .ref q5_, .null, .null, .null])), (q1_, .inl (d4, 8, .inl (fun _ => 0))), (q2_, .inl (d4, 8, .inl (fun _ => 0))), (q3_, .inl (d4, 8, .inl (fun _ => 0))), (q4_, .inl (d4, 12, .inl (fun _ => 0))), (q5_, .inl (d4, 12, .inl (fun _ => 0)))] H := hP
  have hD : va_D A [(h0, .inr (0, [.int 0, .ref q1_, .ref q2_, .ref q3_, .int 0, .ref q4_, .ref q5_, .null, .null, .null])), (q1_, .inl (d4, 8, .inl (fun _ => 0))), (q2_, .inl (d4, 8, .inl (fun _ => 0))), (q3_, .inl (d4, 8, .inl (fun _ => 0))), (q4_, .inl (d4, 12, .inl (fun _ => 0))), (q5_, .inl (d4, 12, .inl (fun _ => 0)))] := hD
  have hK : va_K D vwCl [(d4, .int)] s := hK
  obtain ⟨d, hdd⟩ : ∃ d, d = d4 := ⟨_, rfl⟩
  subst hdd
  refine lv_aload_n hx hb dX0_init_44 rfl (lv_at hl 0 rfl) ?_
  refine lv_bipush (v := nI 12) hx hb dX0_init_45 (by decide) ?_
  refine va_newa (atype := .int) (ty := .int) (a0 := (12, .inl (fun _ => 0))) (N' := 12) hx hb (hts _ q62) rfl hK hP hD hS hA (fun _ => rfl) (by decide) (by decide) (by decide) (Nat.le_of_ble_eq_true rfl) (Nat.le_of_ble_eq_true rfl) dX0_init_47 (fun q6_ d5 H hK hP hD hS => ?_)
  have hK : va_K D vwCl [(d, .int), (d5, .int)] s := hK
  obtain rfl : d5 = d := cA_same hK 1 0 rfl rfl
  have hK := hK.sub (tys' := [(d5, .int)]) [0] rfl
  refine va_putF (D := D) (ci := 0) (v := .ref q6_) (ty := .array .int) (C := RX0) (T := TX0) (N := 10) hx hb hts in_X0 tyX0 tyX0_ok nmX0 hown hK hP hD hS 0 rfl rfl 7 (by decide) (hts _ q38) (fun _ h9 => h9) rfl hin rfl (by decide +kernel) rfl rfl (Nat.le_of_ble_eq_true rfl) dX0_init_49 (fun H locs hP hD hS => ?_)
  have hP : va_P D vwCl [(h0, .inr (0, [.int 0, .ref q1_, .ref q2_, .ref q3_, .int 0, .ref q4_, .ref q5_, .ref q6_, .null, .null])), (q1_, .inl (d5, 8, .inl (fun _ => 0))), (q2_, .inl (d5, 8, .inl (fun _ => 0))), (q3_, .inl (d5, 8, .inl (fun _ => 0))), (q4_, .inl (d5, 12, .inl (fun _ => 0))), (q5_, .inl (d5, 12, .inl (fun _ => 0))), (q6_, .inl (d5, 12, .inl (fun _ => 0)))] H := hP
  have hD : va_D A [(h0, .inr (0, [.int 0, .ref q1_, .ref q2_, .ref q3_, .int 0, .ref q4_, .ref q5_, .ref q6_, .null, .null])), (q1_, .inl (d5, 8, .inl (fun _ => 0))), (q2_, .inl (d5, 8, .inl (fun _ => 0))), (q3_, .inl (d5, 8, .inl (fun _ => 0))), (q4_, .inl (d5, 12, .inl (fun _ => 0))), (q5_, .inl (d5, 12, .inl (fun _ => 0))), (q6_, .inl (d5, 12, .inl (fun _ => 0)))] := hD
  have hK : va_K D vwCl [(d5, .int)] s := hK
  obtain ⟨d, hdd⟩ : ∃ d, d = d5 := ⟨_, rfl⟩
  subst hdd
  refine lv_aload_n hx hb dX0_init_52 rfl (lv_at hl 0 rfl) ?_
  refine lv_iconst (v := nI 2) hx hb dX0_init_53 (by decide) ?_
  refine va_newa (atype := .int) (ty := .int) (a0 := (2, .inl (fun _ => 0))) (N' := 2) hx hb (hts _ q62) rfl hK hP hD hS hA (fun _ => rfl) (by decide) (by decide) (by decide) (Nat.le_of_ble_eq_true rfl) (Nat.le_of_ble_eq_true rfl) dX0_init_54 (fun q7_ d6 H hK hP hD hS => ?_)
  have hK : va_K D vwCl [(d, .int), (d6, .int)] s := hK
  obtain rfl : d6 = d := cA_same hK 1 0 rfl rfl
  have hK := hK.sub (tys' := [(d6, .int)]) [0] rfl
  refine va_putF (D := D) (ci := 0) (v := .ref q7_) (ty := .array .int) (C := RX0) (T := TX0) (N := 10) hx hb hts in_X0 tyX0 tyX0_ok nmX0 hown hK hP hD hS 0 rfl rfl 8 (by decide) (hts _ q39) (fun _ h9 => h9) rfl hin rfl (by decide +kernel) rfl rfl (Nat.le_of_ble_eq_true rfl) dX0_init_56 (fun H locs hP hD hS => ?_)
  have hP : va_P D vwCl [(h0, .inr (0, [.int 0, .ref q1_, .ref q2_, .ref q3_, .int 0, .ref q4_, .ref q5_, .ref q6_, .ref q7_, .null])), (q1_, .inl (d6, 8, .inl (fun _ => 0))), (q2_, .inl (d6, 8, .inl (fun _ => 0))), (q3_, .inl (d6, 8, .inl (fun _ => 0))), (q4_, .inl (d6, 12, .inl (fun _ => 0))), (q5_, .inl (d6, 12, .inl (fun _ => 0))), (q6_, .inl (d6, 12, .inl (fun _ => 0))), (q7_, .inl (d6, 2, .inl (fun _ => 0)))] H := hP
  have hD : va_D A [(h0, .inr (0, [.int 0, .ref q1_, .ref q2_, .ref q3_, .int 0, .ref q4_, .ref q5_, .ref q6_, .ref q7_, .null])), (q1_, .inl (d6, 8, .inl (fun _ => 0))), (q2_, .inl (d6, 8, .inl (fun _ => 0))), (q3_, .inl (d6, 8, .inl (fun _ => 0))), (q4_, .inl (d6, 12, .inl (fun _ => 0))), (q5_, .inl (d6, 12, .inl (fun _ => 0))), (q6_, .inl (d6, 12, .inl (fun _ => 0))), (q7_, .inl (d6, 2, .inl (fun _ => 0)))] := hD
  have hK : va_K D vwCl [(d6, .int)] s := hK
  obtain ⟨d, hdd⟩ : ∃ d, d = d6 := ⟨_, rfl⟩
  subst hdd
  refine lv_aload_n hx hb dX0_init_59 rfl (lv_at hl 0 rfl) ?_
  refine lv_bipush (v := nI 8) hx hb dX0_init_60 (by decide) ?_
  refine va_newa (atype := .int) (ty := .int) (a0 := (8, .inl (fun _ => 0))) (N' := 8) hx hb (hts _ q62) rfl hK hP hD hS hA (fun _ => rfl) (by decide) (by decide) (by decide) (Nat.le_of_ble_eq_true rfl) (Nat.le_of_ble_eq_true rfl) dX0_init_62 (fun q8_ d7 H hK hP hD hS => ?_)
  have hK : va_K D vwCl [(d, .int), (d7, .int)] s := hK
  obtain rfl : d7 = d := cA_same hK 1 0 rfl rfl
  have hK := hK.sub (tys' := [(d7, .int)]) [0] rfl
  refine va_putF (D := D) (ci := 0) (v := .ref q8_) (ty := .array .int) (C := RX0) (T := TX0) (N := 10) hx hb hts in_X0 tyX0 tyX0_ok nmX0 hown hK hP hD hS 0 rfl rfl 9 (by decide) (hts _ q40) (fun _ h9 => h9) rfl hin rfl (by decide +kernel) rfl rfl (Nat.le_of_ble_eq_true rfl) dX0_init_64 (fun H locs hP hD hS => ?_)
  have hP : va_P D vwCl [(h0, .inr (0, [.int 0, .ref q1_, .ref q2_, .ref q3_, .int 0, .ref q4_, .ref q5_, .ref q6_, .ref q7_, .ref q8_])), (q1_, .inl (d7, 8, .inl (fun _ => 0))), (q2_, .inl (d7, 8, .inl (fun _ => 0))), (q3_, .inl (d7, 8, .inl (fun _ => 0))), (q4_, .inl (d7, 12, .inl (fun _ => 0))), (q5_, .inl (d7, 12, .inl (fun _ => 0))), (q6_, .inl (d7, 12, .inl (fun _ => 0))), (q7_, .inl (d7, 2, .inl (fun _ => 0))), (q8_, .inl (d7, 8, .inl (fun _ => 0)))] H := hP
  have hD : va_D A [(h0, .inr (0, [.int 0, .ref q1_, .ref q2_, .ref q3_, .int 0, .ref q4_, .ref q5_, .ref q6_, .ref q7_, .ref q8_])), (q1_, .inl (d7, 8, .inl (fun _ => 0))), (q2_, .inl (d7, 8, .inl (fun _ => 0))), (q3_, .inl (d7, 8, .inl (fun _ => 0))), (q4_, .inl (d7, 12, .inl (fun _ => 0))), (q5_, .inl (d7, 12, .inl (fun _ => 0))), (q6_, .inl (d7, 12, .inl (fun _ => 0))), (q7_, .inl (d7, 2, .inl (fun _ => 0))), (q8_, .inl (d7, 8, .inl (fun _ => 0)))] := hD
  have hK : va_K D vwCl [(d7, .int)] s := hK
  obtain ⟨d, hdd⟩ : ∃ d, d = d7 := ⟨_, rfl⟩
  subst hdd
  refine W.widen (k := 8) (n := 70) (by decide) (by decide) ?_
  obtain ⟨ad, e0, e1, e2, e3, e4, e5, e6, e7, e8⟩ : ∃ ad : Nat → Nat, ad 0 = h0 ∧ ad 1 = q1_ ∧ ad 2 = q2_ ∧ ad 3 = q3_ ∧ ad 4 = q4_ ∧ ad 5 = q5_ ∧ ad 6 = q6_ ∧ ad 7 = q7_ ∧ ad 8 = q8_ := ⟨fun n => [h0, q1_, q2_, q3_, q4_, q5_, q6_, q7_, q8_].getD n 0, rfl, rfl, rfl, rfl, rfl, rfl, rfl, rfl, rfl⟩
  subst e0 e1 e2 e3 e4 e5 e6 e7 e8
  have hP : va_P D vwCl (wG ad d 0 0 (fun _ => 0) (idn 0) (idn 0) (fun _ => 0) (fun _ => 0) (fun _ => 0) (fun _ => 0) (fun _ => 0)) H := hP
  have hD : va_D A (wG ad d 0 0 (fun _ => 0) (idn 0) (idn 0) (fun _ => 0) (fun _ => 0) (fun _ => 0) (fun _ => 0) (fun _ => 0)) := hD
  refine lv_iconst (v := 0) hx hb dX0_init_67 (by decide) ?_
  refine lv_istore_n (lv' := [(1, .int 0), (0, .ref (ad 0))]) hx hb dX0_init_68 rfl hl (by decide) rfl (fun ls hl => ?_)
  have lp : ∀ (n k : Nat), k + n = 8 → ∀ (H : Heap) (locs : List Loc) (ls : Array Slot), va_P D vwCl (wG ad d 0 0 (fun _ => 0) (idn k) (idn k) (fun _ => 0) (fun _ => 0) (fun _ => 0) (fun _ => 0) (fun _ => 0)) H → va_D A (wG ad d 0 0 (fun _ => 0) (idn k) (idn k) (fun _ => 0) (fun _ => 0) (fun _ => 0) (fun _ => 0) (fun _ => 0)) → va_S A s.heap H locs → lv_has ls 2 [(1, .int (nI k)), (0, .ref (ad 0))] → W p l e { frames := 1, cells := 8, slots := 70, locals := 12 } s m ([.ref (ad 0)] : List Value).toArray below meth c H locs 8 70 Q (F0 m 69 ls []) := by
    intro n
    induction n with
    | zero =>
      intro k hk H locs ls hP hD hS hl
      obtain rfl : k = 8 := by omega
      refine lv_iload_n hx hb dX0_init_69 rfl (lv_at hl 0 rfl) ?_
      refine lv_bipush (v := nI 8) hx hb dX0_init_70 (by decide) ?_
      refine lv_icmp_ge (tgt := 95) hx hb dX0_init_72 (by decide) (fun _ => ?_) (fun cc9 => absurd (nI_le (Nat.le_refl 8) (by decide)) cc9)
      exact hret _ _ _ _ (ad, d) dX0_init_95 rfl hK hP hD hS
    | succ n ih =>
      intro k hk H locs ls hP hD hS hl
      refine lv_iload_n hx hb dX0_init_69 rfl (lv_at hl 0 rfl) ?_
      refine lv_bipush (v := nI 8) hx hb dX0_init_70 (by decide) ?_
      refine lv_icmp_ge (tgt := 95) hx hb dX0_init_72 (by decide) (fun cc9 => absurd cc9 (nI_ge (by omega) (by decide))) (fun _ => ?_)
      refine lv_aload_n hx hb dX0_init_75 rfl (lv_at hl 1 rfl) ?_
      refine x_g0 2 13 hx hb hown hts hK hP (by decide) q33 rfl rfl dX0_init_76 ?_
      refine lv_iload_n hx hb dX0_init_79 rfl (lv_at hl 0 rfl) ?_
      refine lv_iload_n hx hb dX0_init_80 rfl (lv_at hl 0 rfl) ?_
      refine x_ast k rfl 2 (by omega) (by decide) hx hb hK hP hD hS rfl dX0_init_81 (fun H locs hP hD hS => ?_)
      have hP : va_P D vwCl (wG ad d 0 0 (fun _ => 0) (upd (idn k) k (nI k)) (idn k) (fun _ => 0) (fun _ => 0) (fun _ => 0) (fun _ => 0) (fun _ => 0)) H := hP
      have hD : va_D A (wG ad d 0 0 (fun _ => 0) (upd (idn k) k (nI k)) (idn k) (fun _ => 0) (fun _ => 0) (fun _ => 0) (fun _ => 0) (fun _ => 0)) := hD
      refine lv_aload_n hx hb dX0_init_82 rfl (lv_at hl 1 rfl) ?_
      refine x_g0 3 16 hx hb hown hts hK hP (by decide) q34 rfl rfl dX0_init_83 ?_
      refine lv_iload_n hx hb dX0_init_86 rfl (lv_at hl 0 rfl) ?_
      refine lv_iload_n hx hb dX0_init_87 rfl (lv_at hl 0 rfl) ?_
      refine x_ast k rfl 3 (by omega) (by decide) hx hb hK hP hD hS rfl dX0_init_88 (fun H locs hP hD hS => ?_)
      have hP : va_P D vwCl (wG ad d 0 0 (fun _ => 0) (upd (idn k) k (nI k)) (upd (idn k) k (nI k)) (fun _ => 0) (fun _ => 0) (fun _ => 0) (fun _ => 0) (fun _ => 0)) H := hP
      have hD : va_D A (wG ad d 0 0 (fun _ => 0) (upd (idn k) k (nI k)) (upd (idn k) k (nI k)) (fun _ => 0) (fun _ => 0) (fun _ => 0) (fun _ => 0) (fun _ => 0)) := hD
      refine lv_iinc (v := nI (k + 1)) (lv' := [(1, .int (nI (k + 1))), (0, .ref (ad 0))]) hx hb dX0_init_89 hl (k := 0) rfl (nI_i1 _) (by decide) rfl (fun ls hl => ?_)
      refine lv_goto (tgt := 69) hx hb dX0_init_92 (by decide) ?_
      exact ih (k + 1) (by omega) H locs ls hP hD hS (lv_sub hl [0, 1] rfl)
  exact lp 8 0 rfl _ _ ls hP hD hS (lv_sub hl [0, 1] rfl)
set_option maxHeartbeats 4000000 in
set_option maxRecDepth 100000 in
theorem m1_init (l : Launch) (D : va_G) (h0 : Nat) : CN l yX1_init cX1_init 2 { frames := 1, cells := 5, slots := 40, locals := 12 } D [.ref h0] [(h0, .inr (1, [.null, .null, .null, .null, .null, .int 0, .int 0]))] 5 40 (fun (u : (Nat → Nat) × ClassId) => u.1 0 = h0) (fun u => wM u.1 u.2 (fun _ => 0) (fun _ => 0) (idn 8) (idn 8) (fun _ => 0) 0 0) (fun u => u.2) := by
  refine CN_of (by decide) (Nat.le_of_ble_eq_true rfl) rfl (fun p e s m below meth c A Q ls hx hb hml hown hts hA hK hP hD hS hl hin hret => ?_)
  have hown : s.vm.findClass RX1 = some m.cls := hown
  have hl : lv_has ls 2 [(0, .ref h0)] := hl
  refine lv_aload_n hx hb dX1_init_0 rfl (lv_at hl 0 rfl) ?_
  refine W.objInit hx hb hown (hts _ q175) (hts _ q29) (hts _ q30) rfl (by rw [hml]; exact hl.1) rfl dX1_init_1 (Nat.le_of_ble_eq_true rfl) (Nat.le_of_ble_eq_true rfl) ?_
  refine W.eq (g2 := F0 m 4 ls []) rfl ?_
  refine lv_aload_n hx hb dX1_init_4 rfl (lv_at hl 0 rfl) ?_
  refine lv_bipush (v := nI 8) hx hb dX1_init_5 (by decide) ?_
  refine va_newa (atype := .int) (ty := .int) (a0 := (8, .inl (fun _ => 0))) (N' := 8) hx hb (hts _ q62) rfl hK hP hD hS hA (fun _ => rfl) (by decide) (by decide) (by decide) (Nat.le_of_ble_eq_true rfl) (Nat.le_of_ble_eq_true rfl) dX1_init_7 (fun q1_ d H hK hP hD hS => ?_)
  refine va_putF (D := D) (ci := 1) (v := .ref q1_) (ty := .array .int) (C := RX1) (T := TX1) (N := 7) hx hb hts in_X1 tyX1 tyX1_ok nmX1 hown hK hP hD hS 0 rfl rfl 0 (by decide) (hts _ q176) (fun _ h9 => h9) rfl hin rfl (by decide +kernel) rfl rfl (Nat.le_of_ble_eq_true rfl) dX1_init_9 (fun H locs hP hD hS => ?_)
  have hP : va_P D vwCl [(h0, .inr (1, [.ref q1_, .null, .null, .null, .null, .int 0, .int 0])), (q1_, .inl (d, 8, .inl (fun _ => 0)))] H := hP
  have hD : va_D A [(h0, .inr (1, [.ref q1_, .null, .null, .null, .null, .int 0, .int 0])), (q1_, .inl (d, 8, .inl (fun _ => 0)))] := hD
  have hK : va_K D vwCl [(d, .int)] s := hK
  refine lv_aload_n hx hb dX1_init_12 rfl (lv_at hl 0 rfl) ?_
  refine lv_bipush (v := nI 8) hx hb dX1_init_13 (by decide) ?_
  refine va_newa (atype := .int) (ty := .int) (a0 := (8, .inl (fun _ => 0))) (N' := 8) hx hb (hts _ q62) rfl hK hP hD hS hA (fun _ => rfl) (by decide) (by decide) (by decide) (Nat.le_of_ble_eq_true rfl) (Nat.le_of_ble_eq_true rfl) dX1_init_15 (fun q2_ d1 H hK hP hD hS => ?_)
  have hK : va_K D vwCl [(d, .int), (d1, .int)] s := hK
  obtain rfl : d1 = d := cA_same hK 1 0 rfl rfl
  have hK := hK.sub (tys' := [(d1, .int)]) [0] rfl
  refine va_putF (D := D) (ci := 1) (v := .ref q2_) (ty := .array .int) (C := RX1) (T := TX1) (N := 7) hx hb hts in_X1 tyX1 tyX1_ok nmX1 hown hK hP hD hS 0 rfl rfl 1 (by decide) (hts _ q177) (fun _ h9 => h9) rfl hin rfl (by decide +kernel) rfl rfl (Nat.le_of_ble_eq_true rfl) dX1_init_17 (fun H locs hP hD hS => ?_)
  have hP : va_P D vwCl [(h0, .inr (1, [.ref q1_, .ref q2_, .null, .null, .null, .int 0, .int 0])), (q1_, .inl (d1, 8, .inl (fun _ => 0))), (q2_, .inl (d1, 8, .inl (fun _ => 0)))] H := hP
  have hD : va_D A [(h0, .inr (1, [.ref q1_, .ref q2_, .null, .null, .null, .int 0, .int 0])), (q1_, .inl (d1, 8, .inl (fun _ => 0))), (q2_, .inl (d1, 8, .inl (fun _ => 0)))] := hD
  have hK : va_K D vwCl [(d1, .int)] s := hK
  obtain ⟨d, hdd⟩ : ∃ d, d = d1 := ⟨_, rfl⟩
  subst hdd
  refine lv_aload_n hx hb dX1_init_20 rfl (lv_at hl 0 rfl) ?_
  refine lv_bipush (v := nI 8) hx hb dX1_init_21 (by decide) ?_
  refine va_newa (atype := .int) (ty := .int) (a0 := (8, .inl (fun _ => 0))) (N' := 8) hx hb (hts _ q62) rfl hK hP hD hS hA (fun _ => rfl) (by decide) (by decide) (by decide) (Nat.le_of_ble_eq_true rfl) (Nat.le_of_ble_eq_true rfl) dX1_init_23 (fun q3_ d2 H hK hP hD hS => ?_)
  have hK : va_K D vwCl [(d, .int), (d2, .int)] s := hK
  obtain rfl : d2 = d := cA_same hK 1 0 rfl rfl
  have hK := hK.sub (tys' := [(d2, .int)]) [0] rfl
  refine va_putF (D := D) (ci := 1) (v := .ref q3_) (ty := .array .int) (C := RX1) (T := TX1) (N := 7) hx hb hts in_X1 tyX1 tyX1_ok nmX1 hown hK hP hD hS 0 rfl rfl 2 (by decide) (hts _ q178) (fun _ h9 => h9) rfl hin rfl (by decide +kernel) rfl rfl (Nat.le_of_ble_eq_true rfl) dX1_init_25 (fun H locs hP hD hS => ?_)
  have hP : va_P D vwCl [(h0, .inr (1, [.ref q1_, .ref q2_, .ref q3_, .null, .null, .int 0, .int 0])), (q1_, .inl (d2, 8, .inl (fun _ => 0))), (q2_, .inl (d2, 8, .inl (fun _ => 0))), (q3_, .inl (d2, 8, .inl (fun _ => 0)))] H := hP
  have hD : va_D A [(h0, .inr (1, [.ref q1_, .ref q2_, .ref q3_, .null, .null, .int 0, .int 0])), (q1_, .inl (d2, 8, .inl (fun _ => 0))), (q2_, .inl (d2, 8, .inl (fun _ => 0))), (q3_, .inl (d2, 8, .inl (fun _ => 0)))] := hD
  have hK : va_K D vwCl [(d2, .int)] s := hK
  obtain ⟨d, hdd⟩ : ∃ d, d = d2 := ⟨_, rfl⟩
  subst hdd
  refine lv_aload_n hx hb dX1_init_28 rfl (lv_at hl 0 rfl) ?_
  refine lv_bipush (v := nI 8) hx hb dX1_init_29 (by decide) ?_
  refine va_newa (atype := .int) (ty := .int) (a0 := (8, .inl (fun _ => 0))) (N' := 8) hx hb (hts _ q62) rfl hK hP hD hS hA (fun _ => rfl) (by decide) (by decide) (by decide) (Nat.le_of_ble_eq_true rfl) (Nat.le_of_ble_eq_true rfl) dX1_init_31 (fun q4_ d3 H hK hP hD hS => ?_)
  have hK : va_K D vwCl [(d, .int), (d3, .int)] s := hK
  obtain rfl : d3 = d := cA_same hK 1 0 rfl rfl
  have hK := hK.sub (tys' := [(d3, .int)]) [0] rfl
  refine va_putF (D := D) (ci := 1) (v := .ref q4_) (ty := .array .int) (C := RX1) (T := TX1) (N := 7) hx hb hts in_X1 tyX1 tyX1_ok nmX1 hown hK hP hD hS 0 rfl rfl 3 (by decide) (hts _ q179) (fun _ h9 => h9) rfl hin rfl (by decide +kernel) rfl rfl (Nat.le_of_ble_eq_true rfl) dX1_init_33 (fun H locs hP hD hS => ?_)
  have hP : va_P D vwCl [(h0, .inr (1, [.ref q1_, .ref q2_, .ref q3_, .ref q4_, .null, .int 0, .int 0])), (q1_, .inl (d3, 8, .inl (fun _ => 0))), (q2_, .inl (d3, 8, .inl (fun _ => 0))), (q3_, .inl (d3, 8, .inl (fun _ => 0))), (q4_, .inl (d3, 8, .inl (fun _ => 0)))] H := hP
  have hD : va_D A [(h0, .inr (1, [.ref q1_, .ref q2_, .ref q3_, .ref q4_, .null, .int 0, .int 0])), (q1_, .inl (d3, 8, .inl (fun _ => 0))), (q2_, .inl (d3, 8, .inl (fun _ => 0))), (q3_, .inl (d3, 8, .inl (fun _ => 0))), (q4_, .inl (d3, 8, .inl (fun _ => 0)))] := hD
  have hK : va_K D vwCl [(d3, .int)] s := hK
  obtain ⟨d, hdd⟩ : ∃ d, d = d3 := ⟨_, rfl⟩
  subst hdd
  refine lv_aload_n hx hb dX1_init_36 rfl (lv_at hl 0 rfl) ?_
  refine lv_bipush (v := nI 8) hx hb dX1_init_37 (by decide) ?_
  refine va_newa (atype := .int) (ty := .int) (a0 := (8, .inl (fun _ => 0))) (N' := 8) hx hb (hts _ q62) rfl hK hP hD hS hA (fun _ => rfl) (by decide) (by decide) (by decide) (Nat.le_of_ble_eq_true rfl) (Nat.le_of_ble_eq_true rfl) dX1_init_39 (fun q5_ d4 H hK hP hD hS => ?_)
  have hK : va_K D vwCl [(d, .int), (d4, .int)] s := hK
  obtain rfl : d4 = d := cA_same hK 1 0 rfl rfl
  have hK := hK.sub (tys' := [(d4, .int)]) [0] rfl
  refine va_putF (D := D) (ci := 1) (v := .ref q5_) (ty := .array .int) (C := RX1) (T := TX1) (N := 7) hx hb hts in_X1 tyX1 tyX1_ok nmX1 hown hK hP hD hS 0 rfl rfl 4 (by decide) (hts _ q180) (fun _ h9 => h9) rfl hin rfl (by decide +kernel) rfl rfl (Nat.le_of_ble_eq_true rfl) dX1_init_41 (fun H locs hP hD hS => ?_)
  have hP : va_P D vwCl [(h0, .inr (1, [.ref q1_, .ref q2_, .ref q3_, .ref q4_, .ref q5_, .int 0, .int 0])), (q1_, .inl (d4, 8, .inl (fun _ => 0))), (q2_, .inl (d4, 8, .inl (fun _ => 0))), (q3_, .inl (d4, 8, .inl (fun _ => 0))), (q4_, .inl (d4, 8, .inl (fun _ => 0))), (q5_, .inl (d4, 8, .inl (fun _ => 0)))] H := hP
  have hD : va_D A [(h0, .inr (1, [.ref q1_, .ref q2_, .ref q3_, .ref q4_, .ref q5_, .int 0, .int 0])), (q1_, .inl (d4, 8, .inl (fun _ => 0))), (q2_, .inl (d4, 8, .inl (fun _ => 0))), (q3_, .inl (d4, 8, .inl (fun _ => 0))), (q4_, .inl (d4, 8, .inl (fun _ => 0))), (q5_, .inl (d4, 8, .inl (fun _ => 0)))] := hD
  have hK : va_K D vwCl [(d4, .int)] s := hK
  obtain ⟨d, hdd⟩ : ∃ d, d = d4 := ⟨_, rfl⟩
  subst hdd
  refine W.widen (k := 5) (n := 40) (by decide) (by decide) ?_
  obtain ⟨ad, e0, e1, e2, e3, e4, e5⟩ : ∃ ad : Nat → Nat, ad 0 = h0 ∧ ad 1 = q1_ ∧ ad 2 = q2_ ∧ ad 3 = q3_ ∧ ad 4 = q4_ ∧ ad 5 = q5_ := ⟨fun n => [h0, q1_, q2_, q3_, q4_, q5_].getD n 0, rfl, rfl, rfl, rfl, rfl, rfl⟩
  subst e0 e1 e2 e3 e4 e5
  have hP : va_P D vwCl (wM ad d (fun _ => 0) (fun _ => 0) (idn 0) (idn 0) (fun _ => 0) 0 0) H := hP
  have hD : va_D A (wM ad d (fun _ => 0) (fun _ => 0) (idn 0) (idn 0) (fun _ => 0) 0 0) := hD
  refine lv_iconst (v := 0) hx hb dX1_init_44 (by decide) ?_
  refine lv_istore_n (lv' := [(1, .int 0), (0, .ref (ad 0))]) hx hb dX1_init_45 rfl hl (by decide) rfl (fun ls hl => ?_)
  have lp : ∀ (n k : Nat), k + n = 8 → ∀ (H : Heap) (locs : List Loc) (ls : Array Slot), va_P D vwCl (wM ad d (fun _ => 0) (fun _ => 0) (idn k) (idn k) (fun _ => 0) 0 0) H → va_D A (wM ad d (fun _ => 0) (fun _ => 0) (idn k) (idn k) (fun _ => 0) 0 0) → va_S A s.heap H locs → lv_has ls 2 [(1, .int (nI k)), (0, .ref (ad 0))] → W p l e { frames := 1, cells := 5, slots := 40, locals := 12 } s m ([.ref (ad 0)] : List Value).toArray below meth c H locs 5 40 Q (F0 m 46 ls []) := by
    intro n
    induction n with
    | zero =>
      intro k hk H locs ls hP hD hS hl
      obtain rfl : k = 8 := by omega
      refine lv_iload_n hx hb dX1_init_46 rfl (lv_at hl 0 rfl) ?_
      refine lv_bipush (v := nI 8) hx hb dX1_init_47 (by decide) ?_
      refine lv_icmp_ge (tgt := 72) hx hb dX1_init_49 (by decide) (fun _ => ?_) (fun cc9 => absurd (nI_le (Nat.le_refl 8) (by decide)) cc9)
      exact hret _ _ _ _ (ad, d) dX1_init_72 rfl hK hP hD hS
    | succ n ih =>
      intro k hk H locs ls hP hD hS hl
      refine lv_iload_n hx hb dX1_init_46 rfl (lv_at hl 0 rfl) ?_
      refine lv_bipush (v := nI 8) hx hb dX1_init_47 (by decide) ?_
      refine lv_icmp_ge (tgt := 72) hx hb dX1_init_49 (by decide) (fun cc9 => absurd cc9 (nI_ge (by omega) (by decide))) (fun _ => ?_)
      refine lv_aload_n hx hb dX1_init_52 rfl (lv_at hl 1 rfl) ?_
      refine x_g1 2 16 hx hb hown hts hK hP (by decide) q178 rfl rfl dX1_init_53 ?_
      refine lv_iload_n hx hb dX1_init_56 rfl (lv_at hl 0 rfl) ?_
      refine lv_iload_n hx hb dX1_init_57 rfl (lv_at hl 0 rfl) ?_
      refine x_ast k rfl 3 (by omega) (by decide) hx hb hK hP hD hS rfl dX1_init_58 (fun H locs hP hD hS => ?_)
      have hP : va_P D vwCl (wM ad d (fun _ => 0) (fun _ => 0) (upd (idn k) k (nI k)) (idn k) (fun _ => 0) 0 0) H := hP
      have hD : va_D A (wM ad d (fun _ => 0) (fun _ => 0) (upd (idn k) k (nI k)) (idn k) (fun _ => 0) 0 0) := hD
      refine lv_aload_n hx hb dX1_init_59 rfl (lv_at hl 1 rfl) ?_
      refine x_g1 3 19 hx hb hown hts hK hP (by decide) q179 rfl rfl dX1_init_60 ?_
      refine lv_iload_n hx hb dX1_init_63 rfl (lv_at hl 0 rfl) ?_
      refine lv_iload_n hx hb dX1_init_64 rfl (lv_at hl 0 rfl) ?_
      refine x_ast k rfl 4 (by omega) (by decide) hx hb hK hP hD hS rfl dX1_init_65 (fun H locs hP hD hS => ?_)
      have hP : va_P D vwCl (wM ad d (fun _ => 0) (fun _ => 0) (upd (idn k) k (nI k)) (upd (idn k) k (nI k)) (fun _ => 0) 0 0) H := hP
      have hD : va_D A (wM ad d (fun _ => 0) (fun _ => 0) (upd (idn k) k (nI k)) (upd (idn k) k (nI k)) (fun _ => 0) 0 0) := hD
      refine lv_iinc (v := nI (k + 1)) (lv' := [(1, .int (nI (k + 1))), (0, .ref (ad 0))]) hx hb dX1_init_66 hl (k := 0) rfl (nI_i1 _) (by decide) rfl (fun ls hl => ?_)
      refine lv_goto (tgt := 46) hx hb dX1_init_69 (by decide) ?_
      exact ih (k + 1) (by omega) H locs ls hP hD hS (lv_sub hl [0, 1] rfl)
  exact lp 8 0 rfl _ _ ls hP hD hS (lv_sub hl [0, 1] rfl)
end
section
/-! 19.law: printed by gen (walks) -/
set_option maxRecDepth 100000
/-! two worlds beside each other; the law's loop -/
def two (D : va_G) (A : Nat → Prop) (wa wb : va_W) (H : Heap) : Prop := va_P D vwCl wa H ∧ va_P D vwCl wb H ∧ va_D A wa ∧ va_D A wb ∧ ∀ (i j : Nat) (p q : Nat × va_E), wa[i]? = some p → wb[j]? = some q → p.1 ≠ q.1
theorem two.swap {D : va_G} {A : Nat → Prop} {wa wb : va_W} {H : Heap} (h : two D A wa wb H) : two D A wb wa H := ⟨h.2.1, h.1, h.2.2.2.1, h.2.2.1, fun i j p q hi hj e => h.2.2.2.2 j i q p hj hi e.symm⟩
theorem two.of {D : va_G} {A : Nat → Prop} {wa wb : va_W} {H : Heap} (hP : va_P D vwCl (wa ++ wb) H) (hD : va_D A (wa ++ wb)) : two D A wa wb H := by
  have ha : ∀ (k : Nat) (q : Nat × va_E), wa[k]? = some q → (wa ++ wb)[k]? = some q := by
    intro k q h
    rw [List.getElem?_append_left (List.getElem?_eq_some_iff.mp h).1]
    exact h
  have hb : ∀ (k : Nat) (q : Nat × va_E), wb[k]? = some q → (wa ++ wb)[wa.length + k]? = some q := by
    intro k q h
    rw [List.getElem?_append_right (by omega), Nat.add_sub_cancel_left]
    exact h
  refine ⟨fun k q h => hP k q (ha k q h), fun k q h => hP _ q (hb k q h), ⟨fun i j p q hi hj e => hD.1 i j p q (ha i p hi) (ha j q hj) e, fun k q h => hD.2 k q (ha k q h)⟩, ⟨fun i j p q hi hj e => ?_, fun k q h => hD.2 _ q (hb k q h)⟩, fun i j p q hi hj e => ?_⟩
  · have := hD.1 _ _ p q (hb i p hi) (hb j q hj) e
    omega
  · have h1 := hD.1 _ _ p q (ha i p hi) (hb j q hj) e
    have h2 := (List.getElem?_eq_some_iff.mp hi).1
    omega
theorem two.step {D : va_G} {A : Nat → Prop} {wa wb w1 : va_W} {H H1 : Heap} (h : two D A wa wb H) (hk : ∀ q : Nat, q < H.size → ¬ va_A wa H.size q → H1[q]? = H[q]?) (hF : ∀ q, va_A wa H.size q → A q) (hP1 : va_P D vwCl w1 H1) (hD1 : va_D (va_A wa H.size) w1) : two D A w1 wb H1 := by
  obtain ⟨h1, h2, h3, h4, h5⟩ := h
  have out : ∀ (j : Nat) (q : Nat × va_E), wb[j]? = some q → ¬ va_A wa H.size q.1 := by
    intro j q hj hq
    rcases hq with ⟨k, e, he⟩ | hq
    · exact h5 k j _ q he hj rfl
    · have := (h2 j q hj).lt
      omega
  refine ⟨hP1, h2.kept (fun k q hq => hk q.1 (h2 k q hq).lt (out k q hq)), ⟨hD1.1, fun k q hq => hF _ (hD1.2 k q hq)⟩, h4, fun i j p q hi hj e => ?_⟩
  exact out j q hj (by rw [← e]; exact hD1.2 i p hi)
section
variable {p : Program} {l : Launch} {e : Env} {R : Room} {s : State} {m : MethodId} {args : Array Value} {below : List Frame} {meth : Method} {c : Code} {H : Heap} {locs : List Loc} {cells slots : Nat} {Q : State → Prop}
variable {cc : ByteArray} {pc nL : Nat} {ls : Array Slot} {D : va_G} {d : ClassId} {A : Nat → Prop}
theorem x2_vi {own C : String} {y : MethodName} {code : ByteArray} {mL fr lo : Nat} {ret : Option FieldType} {idx : Nat} {b ci : Nat} {q : vw_C} {fs : List Value} {w wb : va_W} {S : Type} {post : Int32 → S → Prop} {w1 : S → va_W} (As rest : List Value) {st : List Value} (n : Nat) (hM : CI l y code mL ret fr lo D d (.ref b :: As) w post w1)
    (hx : p.tables.exec = Jvm.exec) (hb : c.code = cc) (hml : c.maxLocals = nL) (hown : s.vm.findClass own = some m.cls) (hts : ∀ x ∈ lw_all, x.before args s = true) (hA : ∀ q : Nat, s.heap.size ≤ q → A q) (hK : va_K D vwCl [(d, .int)] s) (hT : two D A w wb H) (hS : va_S A s.heap H locs)
    (hG : GoodIn lw_all (wsV own idx C y (ws_ y code mL ret))) (hd : y.cls = C ∧ y.cls ≠ "java/lang/invoke/MethodHandle" ∧ y.cls ≠ "java/lang/invoke/VarHandle" ∧ (parseMethodDescriptor y.desc).map (fun d => d.parameters.length) = some n) (hn : As.length = n) (hR : fr + 1 ≤ R.frames ∧ 8 + (mL + 11) + lo ≤ R.locals)
    (hc : vwCl[ci]? = some q) (he : w[0]? = some (b, .inr (ci, fs))) (hq : q.1 = C) (hst : st = As.reverse ++ .ref b :: rest) (hsz : ls.size = nL) (hroom : (rest.map fun v => v.category).sum ≤ 8) (hcl : cells ≤ R.cells ∧ slots ≤ R.slots) (hdg : decode cc pc = .ok (.invokevirtual idx, 3))
    (kk : ∀ (r : Int32) (u : S) (H1 : Heap) (locs1 : List Loc), post r u → two D A (w1 u) wb H1 → va_S A s.heap H1 locs1 → W p l e R s m args below meth c H1 locs1 cells slots Q (F0 m (pc + 3) ls (.int r :: rest))) : W p l e R s m args below meth c H locs cells slots Q (F0 m pc ls st) := by
  subst hst
  have hFc := va_freeA hT.2.2.1 hS hA
  refine va_calli (va_runV (As := As) (rest := rest) ⟨hx, hb, hml, hown, hts⟩ (hM H.size) (cwV n hts hG rfl rfl rfl hd hR) ⟨fun a U g mk q => by obtain ⟨q0, q1, qP, qK, qD⟩ := q; exact ⟨q0, q1, qP, va_K.moved (u := U) (U := U.calling g mk a) (Vm.Alike.refl U.vm) qK, qD⟩, by rw [← hq]; exact va_recv hK hT.1 hc he, fun U hU hW => ⟨rfl, by rw [hU], by rw [hU]; exact hT.1, va_K.moved hW.alike hK, ⟨hT.2.2.1.1, fun _ _ _ => trivial⟩⟩⟩ rfl hn hsz rfl (lv_room hroom) hdg hcl) hS (fun q _ h => hFc q h) hFc (fun r u t H1 locs1 ht hvm hw hB hz1 hk1 hS1 => ?_)
  obtain ⟨hP1, -, hD1⟩ := hB
  rw [ht] at hP1
  exact kk r u H1 locs1 hw (hT.step hk1 hFc hP1 hD1) hS1
theorem x2_vv {own C : String} {y : MethodName} {code : ByteArray} {mL fr lo : Nat} {idx : Nat} {b ci : Nat} {q : vw_C} {fs : List Value} {w wb : va_W} {S : Type} {post : S → Prop} {w1 : S → va_W} (As rest : List Value) {st : List Value} (n : Nat) (hM : CV l y code mL fr lo D d (.ref b :: As) w post w1)
    (hx : p.tables.exec = Jvm.exec) (hb : c.code = cc) (hml : c.maxLocals = nL) (hown : s.vm.findClass own = some m.cls) (hts : ∀ x ∈ lw_all, x.before args s = true) (hA : ∀ q : Nat, s.heap.size ≤ q → A q) (hK : va_K D vwCl [(d, .int)] s) (hT : two D A w wb H) (hS : va_S A s.heap H locs)
    (hG : GoodIn lw_all (wsV own idx C y (ws_ y code mL none))) (hd : y.cls = C ∧ y.cls ≠ "java/lang/invoke/MethodHandle" ∧ y.cls ≠ "java/lang/invoke/VarHandle" ∧ (parseMethodDescriptor y.desc).map (fun d => d.parameters.length) = some n) (hn : As.length = n) (hR : fr + 1 ≤ R.frames ∧ 8 + (mL + 11) + lo ≤ R.locals)
    (hc : vwCl[ci]? = some q) (he : w[0]? = some (b, .inr (ci, fs))) (hq : q.1 = C) (hst : st = As.reverse ++ .ref b :: rest) (hsz : ls.size = nL) (hroom : (rest.map fun v => v.category).sum ≤ 8) (hcl : cells ≤ R.cells ∧ slots ≤ R.slots) (hdg : decode cc pc = .ok (.invokevirtual idx, 3))
    (kk : ∀ (u : S) (H1 : Heap) (locs1 : List Loc), post u → two D A (w1 u) wb H1 → va_S A s.heap H1 locs1 → W p l e R s m args below meth c H1 locs1 cells slots Q (F0 m (pc + 3) ls rest)) : W p l e R s m args below meth c H locs cells slots Q (F0 m pc ls st) := by
  subst hst
  have hFc := va_freeA hT.2.2.1 hS hA
  refine va_callv (va_runV (As := As) (rest := rest) ⟨hx, hb, hml, hown, hts⟩ (hM H.size) (cwV n hts hG rfl rfl rfl hd hR) ⟨fun a U g mk q => by obtain ⟨q0, q1, qP, qK, qD⟩ := q; exact ⟨q0, q1, qP, va_K.moved (u := U) (U := U.calling g mk a) (Vm.Alike.refl U.vm) qK, qD⟩, by rw [← hq]; exact va_recv hK hT.1 hc he, fun U hU hW => ⟨rfl, by rw [hU], by rw [hU]; exact hT.1, va_K.moved hW.alike hK, ⟨hT.2.2.1.1, fun _ _ _ => trivial⟩⟩⟩ rfl hn hsz rfl (lv_room hroom) hdg hcl) hS (fun q _ h => hFc q h) hFc (fun u t H1 locs1 ht hvm hw hB hz1 hk1 hS1 => ?_)
  obtain ⟨hP1, -, hD1⟩ := hB
  rw [ht] at hP1
  exact kk u H1 locs1 hw (hT.step hk1 hFc hP1 hD1) hS1
/-- a constructor without arguments -/
theorem x2_cn {own : String} {y : MethodName} {code : ByteArray} {mL : Nat} {rm : Room} {idx : Nat} {b mc ms : Nat} {w wb : va_W} {tys : List (ClassId × FieldType)} {S : Type} {post : S → Prop} {w1 : S → va_W} {dd : S → ClassId} (rest : List Value) {st : List Value} (hM : CN l y code mL rm D [.ref b] w mc ms post w1 dd)
    (hx : p.tables.exec = Jvm.exec) (hb : c.code = cc) (hml : c.maxLocals = nL) (hown : s.vm.findClass own = some m.cls) (hts : ∀ x ∈ lw_all, x.before args s = true) (hA : ∀ q : Nat, s.heap.size ≤ q → A q) (hK : va_K D vwCl tys s) (hT : two D A w wb H) (hS : va_S A s.heap H locs)
    (hG : GoodIn lw_all (ws_ y code mL none)) (hrc : rm.cells = mc) (hrs : rm.slots = ms) (hini : (Cond.initialized y.cls).before args s = true) (hli : (Cond.methodLink own idx y).before args s = true) (hinm : (Cond.instanceMethod y).before args s = true) (hyn : y.name = "<init>") (hd : y.cls ≠ "java/lang/invoke/MethodHandle" ∧ y.cls ≠ "java/lang/invoke/VarHandle" ∧ (parseMethodDescriptor y.desc).map (fun d => d.parameters.length) = some 0) (hR : rm.frames + 1 ≤ R.frames ∧ 8 + (mL + 11) + rm.locals ≤ R.locals)
    (hst : st = .ref b :: rest) (hsz : ls.size = nL) (hroom : (rest.map fun v => v.category).sum ≤ 8) (hcl : cells + mc ≤ R.cells ∧ slots + ms ≤ R.slots) (hdg : decode cc pc = .ok (.invokespecial idx, 3))
    (kk : ∀ (u : S) (H1 : Heap) (locs1 : List Loc), post u → va_K D vwCl [(dd u, .int)] s → two D A (w1 u) wb H1 → va_S A s.heap H1 locs1 → W p l e R s m args below meth c H1 locs1 (cells + mc) (slots + ms) Q (F0 m (pc + 3) ls rest)) : W p l e R s m args below meth c H locs cells slots Q (F0 m pc ls st) := by
  subst hst
  have hFc := va_freeA hT.2.2.1 hS hA
  have hK0 : va_K D vwCl [] s := hK.sub [] rfl
  refine va_callv (va_runI (As := []) (rest := rest) ⟨hx, hb, hml, hown, hts⟩ (hM H.size) (cwI 0 hts hG rfl hrc hrs hini hli hinm hyn hd hR) ⟨fun a U g mk q => by obtain ⟨q0, q1, qP, qK, qD⟩ := q; exact ⟨q0, q1, qP, va_K.moved (u := U) (U := U.calling g mk a) (Vm.Alike.refl U.vm) qK, qD⟩, fun U hU hW => ⟨rfl, by rw [hU], by rw [hU]; exact hT.1, va_K.moved hW.alike hK0, ⟨hT.2.2.1.1, fun _ _ _ => trivial⟩⟩⟩ rfl rfl hsz rfl (lv_room hroom) hdg hcl) hS (fun q _ h => hFc q h) hFc (fun u t H1 locs1 ht hvm hw hB hz1 hk1 hS1 => ?_)
  obtain ⟨hP1, hK1, hD1⟩ := hB
  rw [ht] at hP1
  exact kk u H1 locs1 hw (va_K.moved hvm.symm hK1) (hT.step hk1 hFc hP1 hD1) hS1
/-- the script, by a place that is a Nat -/
theorem x_sld {b L : Nat} {xs : Nat → Int32} {i : Int32} {rest : List Value} (j : Nat) (hi : i = nI j) (hj : j < L) (hL : L < 1000) (hx : p.tables.exec = Jvm.exec) (hb : c.code = cc) (hX : va_X b L xs s s.heap) (hbl : b < s.heap.size) (hbA : ¬ A b) (hS : va_S A s.heap H locs) (hdg : decode cc pc = .ok (.iaload, 1))
    (kk : W p l e R s m args below meth c H locs cells slots Q (F0 m (pc + 1) ls (.int (xs j) :: rest))) : W p l e R s m args below meth c H locs cells slots Q (F0 m pc ls (.int i :: .ref b :: rest)) := by
  subst hi
  refine va_sld hx hb hX hbl hbA hS (vp_in_nI hj (by omega)) hdg ?_
  rw [nI_clamp (by omega)]
  exact kk
end
theorem nI_i5 (k : Nat) : nI k + Int32.ofInt 5 = nI (k + 5) := nI_add k 5
theorem len_cmp {L i : Nat} (hL : L ≤ 320) (hi : i ≤ 320) : nI L - nI 5 < nI i ↔ L < i + 5 := by
  rw [Int32.lt_iff_toInt_lt, pk_sub_toInt (by omega) (by omega), nI_toInt (by omega)]
  omega
theorem cf_same {X Y : Prop} {r r' : Int32} (h : (r = 1 ∧ X) ∨ (r = 0 ∧ ¬ X)) (h' : (r' = 1 ∧ Y) ∨ (r' = 0 ∧ ¬ Y)) (e : X ↔ Y) : r = r' := by
  rcases h with ⟨h1, h2⟩ | ⟨h1, h2⟩ <;> rcases h' with ⟨h3, h4⟩ | ⟨h3, h4⟩
  · rw [h1, h3]
  · exact absurd (e.mp h2) h4
  · exact absurd (e.mpr h4) h2
  · rw [h1, h3]
/-! THE CLAIM OUT OF ONE WALK OF THE LAW'S BODY. Your part is whole_start (and what it stands on); all else here is the same for every law, but numbers. -/
def R_law : String := "ParityGameLaw"
def lw_P (b : Addr) (xs : List Int32) (args : Array Value) (s : State) : Prop := args = #[.ref b] ∧ s.IntsAt b xs ∧ xs.length ≤ 320 ∧ (Jvm.Cond.and given_1 narrow_1).before args s = true
def lw_Q (_ : Array Value) (s : State) (o : Outcome) (t : State) : Prop := o = .returned (some (.int 1)) ∧ Framed s o t [] 600000 7290000
def lw_Z (below : List Frame) (a : Array Value) (s : State) : State → Prop := fun t => ∃ o, t.status = .running ∧ Ended t below o ∧ lw_Q a s o t
/-- the law's own end, with 1 on the stack, nothing written that was there before, its room as the claim has it -/
theorem lw_ret {p : Program} {l : Launch} {e : Env} {s : State} {m : MethodId} {below : List Frame} {meth : Method} {c : Code} {b : Nat} (hx : p.tables.exec = Jvm.exec) (hb : c.code = code) (hr : meth.sig.returnType = ret) (hlocks : meth.locks = false) {pc : Nat} {H : Heap} {ls : Array Slot} (hdg : decode code pc = .ok (.ireturn, 1)) : W p l e room_1 s m #[Value.ref b] below meth c H [] 600000 7290000 (lw_Z below #[Value.ref b] s) (F0 m pc ls [.int 1]) := by
  intro T hT X
  obtain ⟨fs, hret, hrun, hended, hW, hframe⟩ := X.leave (v := some (.int 1)) (hlocks := hlocks) (fun h => by rw [hr] at h; cases h)
  have hmeth' : T.vm.method? m = some meth := X.method'
  refine ⟨T.setFrames fs, ?_, .returned (some (.int 1)), hrun, hended, rfl, ⟨_, rfl⟩, hW, hframe⟩
  jvm_step X.here [X.here.top, hx, hb, hdg, hmeth', hr, ret, narrow_b1]
  (try refine ⟨rfl, ?_⟩); (try refine ⟨rfl, ?_⟩)
  first | (intro acts; rw [hret _ acts rfl rfl rfl]) | rw [hret _ _ rfl rfl rfl]
  exact Steps.refl _
/-- what holds at the law's entry: the machine, the code, the tables' words (any of lw_tbl by 'hts w (by decide +kernel)'), the script of L ints xs at the cell b, what the Statement gives of the start (any of its parts by flat_of_before) -/
def lw_At (p : Program) (s : State) (m : MethodId) (meth : Method) (c : Code) (b L : Nat) (xs : Nat → Int32) : Prop :=
  p.tables.exec = Jvm.exec ∧ c.code = code ∧ meth.sig.returnType = ret ∧ c.maxLocals = 4 ∧ s.vm.findClass R_law = some m.cls ∧ (∀ w ∈ lw_tbl, w.before #[Value.ref b] s = true) ∧ va_X b L xs s s.heap ∧ b < s.heap.size ∧ meth.locks = false ∧ (Jvm.Cond.and given_1 narrow_1).before #[Value.ref b] s = true
theorem cf_iff {own col f s : Nat → Nat} {one : Int32} {C F S O2 C2 F2 S2 : Nat → Int32} (hg : gv own col f s one C F S) (ht : tv own col f s O2 C2 F2 S2) {x y : Int32} : (∃ a b, a < 8 ∧ b < 8 ∧ x = nI a ∧ y = nI b ∧ bt (fro one F S (nI 0) 255 9 ((1 : Int32) <<< (nI b &&& 31)) 0) a = true) ↔ (∃ a b, a < 8 ∧ b < 8 ∧ x = nI a ∧ y = nI b ∧ bt (tco O2 F2 S2 ((1 : Int32) <<< (nI b &&& 31)) 8) a = true) := by
  constructor
  · rintro ⟨a, b, h1, h2, h3, h4, h5⟩
    exact ⟨a, b, h1, h2, h3, h4, (tco_fro hg ht h2 a).mpr h5⟩
  · rintro ⟨a, b, h1, h2, h3, h4, h5⟩
    exact ⟨a, b, h1, h2, h3, h4, (tco_fro hg ht h2 a).mp h5⟩
set_option maxHeartbeats 4000000 in
set_option maxRecDepth 100000 in
/-- the law at its loop: i ints read, both hold one game -/
theorem law_loop {p : Program} {e : Env} {s : State} {m : MethodId} {below : List Frame} {meth : Method} {c : Code} (l : Launch) {b Ln : Nat} {xs : Nat → Int32} (hL : Ln ≤ 320) (C0 : lw_At p s m meth c b Ln xs) {D : va_G} {d : ClassId} (hK : va_K D vwCl [(d, .int)] s) (ad ae : Nat → Nat) :
    ∀ (n i : Nat) (own col f1 f2 : Nat → Nat) (g : GSt) (t : MSt), i ≤ Ln → Ln < i + 5 * n + 5 → gvu own col f1 f2 g → tvu own col f1 f2 t → ∀ (H : Heap) (locs : List Loc) (ls : Array Slot), two D (fun q : Nat => s.heap.size ≤ q) (wGu ad d g) (wMu ae d t) H → va_S (fun q : Nat => s.heap.size ≤ q) s.heap H locs → lv_has ls 4 [(3, .int (nI i)), (1, .ref (ad 0)), (2, .ref (ae 0)), (0, .ref b)] → W p l e room_1 s m #[Value.ref b] below meth c H locs 15 127 (lw_Z below #[Value.ref b] s) (F0 m 18 ls []) := by
  obtain ⟨hx, hb, hr, hml, hown, hts0, hX, hbl, hlocks, hgv⟩ := id C0
  have hown : s.vm.findClass "ParityGameLaw" = some m.cls := hown
  have hts : ∀ w ∈ lw_all, w.before #[Value.ref b] s = true := fun w h => hts0 w (lw_all_tbl h)
  generalize hAe : (fun q : Nat => s.heap.size ≤ q) = A
  have hA : ∀ q : Nat, s.heap.size ≤ q → A q := fun q h => by rw [← hAe]; exact h
  have hbA : ¬ A b := by rw [← hAe]; exact Nat.not_le.mpr hbl
  have hAs : ∀ q : Nat, A q → s.heap.size ≤ q := fun q h => by rw [← hAe] at h; exact h
  have out : ∀ (i : Nat), i ≤ Ln → Ln < i + 5 → ∀ (H : Heap) (locs : List Loc) (ls : Array Slot), va_S A s.heap H locs → lv_has ls 4 [(3, .int (nI i)), (1, .ref (ad 0)), (2, .ref (ae 0)), (0, .ref b)] → W p l e room_1 s m #[Value.ref b] below meth c H locs 15 127 (lw_Z below #[Value.ref b] s) (F0 m 18 ls []) := by
    intro i hi hlt H locs ls hS hl
    refine lv_iload_n hx hb dL_law_18 rfl (lv_at hl 0 rfl) ?_
    refine lv_aload_n hx hb dL_law_19 rfl (lv_at hl 3 rfl) ?_
    refine va_slen hx hb hX hbl hbA hS dL_law_20 ?_
    refine lv_iconst (v := nI 5) hx hb dL_law_21 (by decide) ?_
    refine lv_isub hx hb dL_law_22 ?_
    refine lv_icmp_gt (tgt := 379) hx hb dL_law_23 (by decide) (fun _ => ?_) (fun cc9 => absurd ((len_cmp hL (by omega)).mpr hlt) cc9)
    refine lv_iconst (v := 1) hx hb dL_law_379 (by decide) ?_
    refine va_forget (fun q hq => hAs _ (hS.2.2 q hq)) ?_
    refine W.widen (k := 600000) (n := 7290000) (by decide) (by decide) ?_
    exact lw_ret hx hb hr hlocks dL_law_380
  intro n
  induction n with
  | zero =>
    intro i own col f1 f2 g t hi hlt _ _ H locs ls hT hS hl
    exact out i hi (by omega) H locs ls hS hl
  | succ n ih =>
    intro i own col f1 f2 g t hi hlt hg ht H locs ls hT hS hl
    by_cases hin : Ln < i + 5
    · exact out i hi hin H locs ls hS hl
    · obtain ⟨one, dep, C, F, S, L, T, G, V, R⟩ := g
      obtain ⟨O2, C2, F2, S2, R2, kn, wi⟩ := t
      have hg : gv own col f1 f2 one C F S := hg
      obtain ⟨ht, hkc⟩ := ht
      have ht : tv own col f1 f2 O2 C2 F2 S2 := ht
      have hkc : kc own col f1 f2 kn wi := hkc
      have hT : two D A (wG ad d one dep C F S L T G V R) (wM ae d O2 C2 F2 S2 R2 kn wi) H := hT
      refine lv_iload_n hx hb dL_law_18 rfl (lv_at hl 0 rfl) ?_
      refine lv_aload_n hx hb dL_law_19 rfl (lv_at hl 3 rfl) ?_
      refine va_slen hx hb hX hbl hbA hS dL_law_20 ?_
      refine lv_iconst (v := nI 5) hx hb dL_law_21 (by decide) ?_
      refine lv_isub hx hb dL_law_22 ?_
      refine lv_icmp_gt (tgt := 379) hx hb dL_law_23 (by decide) (fun cc9 => absurd cc9 (fun h => hin ((len_cmp hL (by omega)).mp h))) (fun _ => ?_)
      refine lv_aload_n hx hb dL_law_26 rfl (lv_at hl 3 rfl) ?_
      refine lv_iload_n hx hb dL_law_27 rfl (lv_at hl 0 rfl) ?_
      refine x_sld i rfl (by omega) (by omega) hx hb hX hbl hbA hS dL_law_28 ?_
      refine lv_bipush (v := nI 15) hx hb dL_law_29 (by decide) ?_
      refine lv_iand hx hb dL_law_31 ?_
      obtain ⟨j, hj, ej⟩ := pk_andE (xs i) (m := nI 15) 4 rfl
      rw [ej]
      have hj : j < 16 := hj
      rcases (show j = 0 ∨ j = 1 ∨ j = 2 ∨ j = 3 ∨ j = 4 ∨ j = 5 ∨ j = 6 ∨ j = 7 ∨ j = 8 ∨ j = 9 ∨ j = 10 ∨ j = 11 ∨ j = 12 ∨ j = 13 ∨ j = 14 ∨ j = 15 by omega) with e0 | e0 | e0 | e0 | e0 | e0 | e0 | e0 | e0 | e0 | e0 | e0 | e0 | e0 | e0 | e0 <;> subst e0
      · refine lv_tableIn (off := 60) (tgt := 92) hx hb dL_law_32 (by decide) (by decide) rfl (by decide) ?_
        refine lv_aload_n hx hb dL_law_92 rfl (lv_at hl 1 rfl) ?_
        refine lv_aload_n hx hb dL_law_93 rfl (lv_at hl 3 rfl) ?_
        refine lv_iload_n hx hb dL_law_94 rfl (lv_at hl 0 rfl) ?_
        refine lv_iconst (v := nI 1) hx hb dL_law_95 (by decide) ?_
        refine lv_iadd hx hb dL_law_96 ?_
        refine x_sld (i + 1) (nI_add i 1) (by omega) (by omega) hx hb hX hbl hbA hS dL_law_97 ?_
        refine lv_aload_n hx hb dL_law_98 rfl (lv_at hl 3 rfl) ?_
        refine lv_iload_n hx hb dL_law_99 rfl (lv_at hl 0 rfl) ?_
        refine lv_iconst (v := nI 2) hx hb dL_law_100 (by decide) ?_
        refine lv_iadd hx hb dL_law_101 ?_
        refine x_sld (i + 2) (nI_add i 2) (by omega) (by omega) hx hb hX hbl hbA hS dL_law_102 ?_
        refine lv_aload_n hx hb dL_law_103 rfl (lv_at hl 3 rfl) ?_
        refine lv_iload_n hx hb dL_law_104 rfl (lv_at hl 0 rfl) ?_
        refine lv_iconst (v := nI 3) hx hb dL_law_105 (by decide) ?_
        refine lv_iadd hx hb dL_law_106 ?_
        refine x_sld (i + 3) (nI_add i 3) (by omega) (by omega) hx hb hX hbl hbA hS dL_law_107 ?_
        refine lv_aload_n hx hb dL_law_108 rfl (lv_at hl 3 rfl) ?_
        refine lv_iload_n hx hb dL_law_109 rfl (lv_at hl 0 rfl) ?_
        refine lv_iconst (v := nI 4) hx hb dL_law_110 (by decide) ?_
        refine lv_iadd hx hb dL_law_111 ?_
        refine x_sld (i + 4) (nI_add i 4) (by omega) (by omega) hx hb hX hbl hbA hS dL_law_112 ?_
        refine x2_vi [.int (xs (i + 1)), .int (xs (i + 2)), .int (xs (i + 3)), .int (xs (i + 4))] [] 4 (m0_set l D ad d one dep C F S L T G V R own col f1 f2 hg (xs (i + 1)) (xs (i + 2)) (xs (i + 3)) (xs (i + 4))) hx hb hml hown hts hA hK hT hS (lw_V q63 q64 q65 q21 q66) (by decide +kernel) rfl ⟨Nat.le_of_ble_eq_true rfl, Nat.le_of_ble_eq_true rfl⟩ rfl rfl rfl rfl hl.1 (Nat.le_of_ble_eq_true rfl) ⟨Nat.le_of_ble_eq_true rfl, Nat.le_of_ble_eq_true rfl⟩ dL_law_113 (fun r1 u H locs hw1 hT hS => ?_)
        refine lv_aload_n hx hb dL_law_116 rfl (lv_at hl 2 rfl) ?_
        refine lv_aload_n hx hb dL_law_117 rfl (lv_at hl 3 rfl) ?_
        refine lv_iload_n hx hb dL_law_118 rfl (lv_at hl 0 rfl) ?_
        refine lv_iconst (v := nI 1) hx hb dL_law_119 (by decide) ?_
        refine lv_iadd hx hb dL_law_120 ?_
        refine x_sld (i + 1) (nI_add i 1) (by omega) (by omega) hx hb hX hbl hbA hS dL_law_121 ?_
        refine lv_aload_n hx hb dL_law_122 rfl (lv_at hl 3 rfl) ?_
        refine lv_iload_n hx hb dL_law_123 rfl (lv_at hl 0 rfl) ?_
        refine lv_iconst (v := nI 2) hx hb dL_law_124 (by decide) ?_
        refine lv_iadd hx hb dL_law_125 ?_
        refine x_sld (i + 2) (nI_add i 2) (by omega) (by omega) hx hb hX hbl hbA hS dL_law_126 ?_
        refine lv_aload_n hx hb dL_law_127 rfl (lv_at hl 3 rfl) ?_
        refine lv_iload_n hx hb dL_law_128 rfl (lv_at hl 0 rfl) ?_
        refine lv_iconst (v := nI 3) hx hb dL_law_129 (by decide) ?_
        refine lv_iadd hx hb dL_law_130 ?_
        refine x_sld (i + 3) (nI_add i 3) (by omega) (by omega) hx hb hX hbl hbA hS dL_law_131 ?_
        refine lv_aload_n hx hb dL_law_132 rfl (lv_at hl 3 rfl) ?_
        refine lv_iload_n hx hb dL_law_133 rfl (lv_at hl 0 rfl) ?_
        refine lv_iconst (v := nI 4) hx hb dL_law_134 (by decide) ?_
        refine lv_iadd hx hb dL_law_135 ?_
        refine x_sld (i + 4) (nI_add i 4) (by omega) (by omega) hx hb hX hbl hbA hS dL_law_136 ?_
        have hT := hT.swap
        refine x2_vi [.int (xs (i + 1)), .int (xs (i + 2)), .int (xs (i + 3)), .int (xs (i + 4))] [.int r1] 4 (m1_set l D ae d kn wi O2 C2 F2 S2 R2 own col f1 f2 ht hkc (xs (i + 1)) (xs (i + 2)) (xs (i + 3)) (xs (i + 4))) hx hb hml hown hts hA hK hT hS (lw_V q198 q199 q200 q22 q201) (by decide +kernel) rfl ⟨Nat.le_of_ble_eq_true rfl, Nat.le_of_ble_eq_true rfl⟩ rfl rfl rfl rfl hl.1 (Nat.le_of_ble_eq_true rfl) ⟨Nat.le_of_ble_eq_true rfl, Nat.le_of_ble_eq_true rfl⟩ dL_law_137 (fun r2 v H locs hw2 hT hS => ?_)
        refine lv_icmp_eq (tgt := 373) hx hb dL_law_140 (by decide) (fun _ => ?_) (fun cc9 => absurd (hw1.1.trans hw2.1.symm) cc9)
        refine lv_iinc (v := nI (i + 5)) (lv' := [(3, .int (nI (i + 5))), (1, .ref (ad 0)), (2, .ref (ae 0)), (0, .ref b)]) hx hb dL_law_373 hl (k := 0) rfl (nI_i5 _) (by decide) rfl (fun ls hl => ?_)
        refine lv_goto (tgt := 18) hx hb dL_law_376 (by decide) ?_
        exact ih (i + 5) (s_own own (xs (i + 1)) (xs (i + 2)) (xs (i + 3))) (s_col col (xs (i + 1)) (xs (i + 2)) (xs (i + 3))) (s_f f1 (xs (i + 1)) (xs (i + 2)) (xs (i + 3)) (xs (i + 4))) (s_s f2 (xs (i + 1)) (xs (i + 2)) (xs (i + 3)) (xs (i + 4))) u v (by omega) (by omega) hw1.2 hw2.2 H locs ls hT.swap hS (lv_sub hl [0, 1, 2, 3] rfl)
      · refine lv_tableIn (off := 113) (tgt := 145) hx hb dL_law_32 (by decide) (by decide) rfl (by decide) ?_
        refine lv_aload_n hx hb dL_law_145 rfl (lv_at hl 1 rfl) ?_
        refine lv_aload_n hx hb dL_law_146 rfl (lv_at hl 3 rfl) ?_
        refine lv_iload_n hx hb dL_law_147 rfl (lv_at hl 0 rfl) ?_
        refine lv_iconst (v := nI 1) hx hb dL_law_148 (by decide) ?_
        refine lv_iadd hx hb dL_law_149 ?_
        refine x_sld (i + 1) (nI_add i 1) (by omega) (by omega) hx hb hX hbl hbA hS dL_law_150 ?_
        refine lv_aload_n hx hb dL_law_151 rfl (lv_at hl 3 rfl) ?_
        refine lv_iload_n hx hb dL_law_152 rfl (lv_at hl 0 rfl) ?_
        refine lv_iconst (v := nI 2) hx hb dL_law_153 (by decide) ?_
        refine lv_iadd hx hb dL_law_154 ?_
        refine x_sld (i + 2) (nI_add i 2) (by omega) (by omega) hx hb hX hbl hbA hS dL_law_155 ?_
        refine x2_vi [.int (xs (i + 1)), .int (xs (i + 2))] [] 2 (m0_paint l D ad d one dep C F S L T G V R own col f1 f2 hg (xs (i + 1)) (xs (i + 2))) hx hb hml hown hts hA hK hT hS (lw_V q70 q71 q72 q21 q73) (by decide +kernel) rfl ⟨Nat.le_of_ble_eq_true rfl, Nat.le_of_ble_eq_true rfl⟩ rfl rfl rfl rfl hl.1 (Nat.le_of_ble_eq_true rfl) ⟨Nat.le_of_ble_eq_true rfl, Nat.le_of_ble_eq_true rfl⟩ dL_law_156 (fun r1 u H locs hw1 hT hS => ?_)
        refine lv_aload_n hx hb dL_law_159 rfl (lv_at hl 2 rfl) ?_
        refine lv_aload_n hx hb dL_law_160 rfl (lv_at hl 3 rfl) ?_
        refine lv_iload_n hx hb dL_law_161 rfl (lv_at hl 0 rfl) ?_
        refine lv_iconst (v := nI 1) hx hb dL_law_162 (by decide) ?_
        refine lv_iadd hx hb dL_law_163 ?_
        refine x_sld (i + 1) (nI_add i 1) (by omega) (by omega) hx hb hX hbl hbA hS dL_law_164 ?_
        refine lv_aload_n hx hb dL_law_165 rfl (lv_at hl 3 rfl) ?_
        refine lv_iload_n hx hb dL_law_166 rfl (lv_at hl 0 rfl) ?_
        refine lv_iconst (v := nI 2) hx hb dL_law_167 (by decide) ?_
        refine lv_iadd hx hb dL_law_168 ?_
        refine x_sld (i + 2) (nI_add i 2) (by omega) (by omega) hx hb hX hbl hbA hS dL_law_169 ?_
        have hT := hT.swap
        refine x2_vi [.int (xs (i + 1)), .int (xs (i + 2))] [.int r1] 2 (m1_paint l D ae d kn wi O2 C2 F2 S2 R2 own col f1 f2 ht hkc (xs (i + 1)) (xs (i + 2))) hx hb hml hown hts hA hK hT hS (lw_V q210 q211 q212 q22 q213) (by decide +kernel) rfl ⟨Nat.le_of_ble_eq_true rfl, Nat.le_of_ble_eq_true rfl⟩ rfl rfl rfl rfl hl.1 (Nat.le_of_ble_eq_true rfl) ⟨Nat.le_of_ble_eq_true rfl, Nat.le_of_ble_eq_true rfl⟩ dL_law_170 (fun r2 v H locs hw2 hT hS => ?_)
        refine lv_icmp_eq (tgt := 373) hx hb dL_law_173 (by decide) (fun _ => ?_) (fun cc9 => absurd (hw1.1.trans hw2.1.symm) cc9)
        refine lv_iinc (v := nI (i + 5)) (lv' := [(3, .int (nI (i + 5))), (1, .ref (ad 0)), (2, .ref (ae 0)), (0, .ref b)]) hx hb dL_law_373 hl (k := 0) rfl (nI_i5 _) (by decide) rfl (fun ls hl => ?_)
        refine lv_goto (tgt := 18) hx hb dL_law_376 (by decide) ?_
        exact ih (i + 5) own (p_col col (xs (i + 1)) (xs (i + 2))) f1 f2 u v (by omega) (by omega) hw1.2 hw2.2 H locs ls hT.swap hS (lv_sub hl [0, 1, 2, 3] rfl)
      · refine lv_tableIn (off := 146) (tgt := 178) hx hb dL_law_32 (by decide) (by decide) rfl (by decide) ?_
        refine lv_aload_n hx hb dL_law_178 rfl (lv_at hl 1 rfl) ?_
        refine lv_aload_n hx hb dL_law_179 rfl (lv_at hl 3 rfl) ?_
        refine lv_iload_n hx hb dL_law_180 rfl (lv_at hl 0 rfl) ?_
        refine lv_iconst (v := nI 1) hx hb dL_law_181 (by decide) ?_
        refine lv_iadd hx hb dL_law_182 ?_
        refine x_sld (i + 1) (nI_add i 1) (by omega) (by omega) hx hb hX hbl hbA hS dL_law_183 ?_
        refine x2_vi [.int (xs (i + 1))] [] 1 (m0_hand l D ad d one dep C F S L T G V R own col f1 f2 hg (xs (i + 1))) hx hb hml hown hts hA hK hT hS (lw_V q74 q75 q76 q21 q77) (by decide +kernel) rfl ⟨Nat.le_of_ble_eq_true rfl, Nat.le_of_ble_eq_true rfl⟩ rfl rfl rfl rfl hl.1 (Nat.le_of_ble_eq_true rfl) ⟨Nat.le_of_ble_eq_true rfl, Nat.le_of_ble_eq_true rfl⟩ dL_law_184 (fun r1 u H locs hw1 hT hS => ?_)
        refine lv_aload_n hx hb dL_law_187 rfl (lv_at hl 2 rfl) ?_
        refine lv_aload_n hx hb dL_law_188 rfl (lv_at hl 3 rfl) ?_
        refine lv_iload_n hx hb dL_law_189 rfl (lv_at hl 0 rfl) ?_
        refine lv_iconst (v := nI 1) hx hb dL_law_190 (by decide) ?_
        refine lv_iadd hx hb dL_law_191 ?_
        refine x_sld (i + 1) (nI_add i 1) (by omega) (by omega) hx hb hX hbl hbA hS dL_law_192 ?_
        have hT := hT.swap
        refine x2_vi [.int (xs (i + 1))] [.int r1] 1 (m1_hand l D ae d kn wi O2 C2 F2 S2 R2 own col f1 f2 ht hkc (xs (i + 1))) hx hb hml hown hts hA hK hT hS (lw_V q214 q215 q216 q22 q217) (by decide +kernel) rfl ⟨Nat.le_of_ble_eq_true rfl, Nat.le_of_ble_eq_true rfl⟩ rfl rfl rfl rfl hl.1 (Nat.le_of_ble_eq_true rfl) ⟨Nat.le_of_ble_eq_true rfl, Nat.le_of_ble_eq_true rfl⟩ dL_law_193 (fun r2 v H locs hw2 hT hS => ?_)
        refine lv_icmp_eq (tgt := 373) hx hb dL_law_196 (by decide) (fun _ => ?_) (fun cc9 => absurd (hw1.1.trans hw2.1.symm) cc9)
        refine lv_iinc (v := nI (i + 5)) (lv' := [(3, .int (nI (i + 5))), (1, .ref (ad 0)), (2, .ref (ae 0)), (0, .ref b)]) hx hb dL_law_373 hl (k := 0) rfl (nI_i5 _) (by decide) rfl (fun ls hl => ?_)
        refine lv_goto (tgt := 18) hx hb dL_law_376 (by decide) ?_
        exact ih (i + 5) (h_own own (xs (i + 1))) col f1 f2 u v (by omega) (by omega) hw1.2 hw2.2 H locs ls hT.swap hS (lv_sub hl [0, 1, 2, 3] rfl)
      · refine lv_tableIn (off := 169) (tgt := 201) hx hb dL_law_32 (by decide) (by decide) rfl (by decide) ?_
        refine lv_aload_n hx hb dL_law_201 rfl (lv_at hl 1 rfl) ?_
        refine x2_vv [] [] 0 (m0_mirror l D ad d one dep C F S L T G V R own col f1 f2 hg) hx hb hml hown hts hA hK hT hS (lw_V q82 q83 q84 q21 q85) (by decide +kernel) rfl ⟨Nat.le_of_ble_eq_true rfl, Nat.le_of_ble_eq_true rfl⟩ rfl rfl rfl rfl hl.1 (Nat.le_of_ble_eq_true rfl) ⟨Nat.le_of_ble_eq_true rfl, Nat.le_of_ble_eq_true rfl⟩ dL_law_202 (fun u H locs hw1 hT hS => ?_)
        refine lv_aload_n hx hb dL_law_205 rfl (lv_at hl 2 rfl) ?_
        have hT := hT.swap
        refine x2_vv [] [] 0 (m1_mirror l D ae d kn wi O2 C2 F2 S2 R2 own col f1 f2 ht hkc) hx hb hml hown hts hA hK hT hS (lw_V q218 q219 q220 q22 q221) (by decide +kernel) rfl ⟨Nat.le_of_ble_eq_true rfl, Nat.le_of_ble_eq_true rfl⟩ rfl rfl rfl rfl hl.1 (Nat.le_of_ble_eq_true rfl) ⟨Nat.le_of_ble_eq_true rfl, Nat.le_of_ble_eq_true rfl⟩ dL_law_206 (fun v H locs hw2 hT hS => ?_)
        refine lv_goto (tgt := 373) hx hb dL_law_209 (by decide) ?_
        refine lv_iinc (v := nI (i + 5)) (lv' := [(3, .int (nI (i + 5))), (1, .ref (ad 0)), (2, .ref (ae 0)), (0, .ref b)]) hx hb dL_law_373 hl (k := 0) rfl (nI_i5 _) (by decide) rfl (fun ls hl => ?_)
        refine lv_goto (tgt := 18) hx hb dL_law_376 (by decide) ?_
        exact ih (i + 5) (m_own own) (m_col col) f1 f2 u v (by omega) (by omega) hw1 hw2 H locs ls hT.swap hS (lv_sub hl [0, 1, 2, 3] rfl)
      · refine lv_tableIn (off := 180) (tgt := 212) hx hb dL_law_32 (by decide) (by decide) rfl (by decide) ?_
        refine lv_aload_n hx hb dL_law_212 rfl (lv_at hl 1 rfl) ?_
        refine lv_aload_n hx hb dL_law_213 rfl (lv_at hl 3 rfl) ?_
        refine lv_iload_n hx hb dL_law_214 rfl (lv_at hl 0 rfl) ?_
        refine lv_iconst (v := nI 1) hx hb dL_law_215 (by decide) ?_
        refine lv_iadd hx hb dL_law_216 ?_
        refine x_sld (i + 1) (nI_add i 1) (by omega) (by omega) hx hb hX hbl hbA hS dL_law_217 ?_
        refine x2_vi [.int (xs (i + 1))] [] 1 (m0_winner l D ad d one dep C F S L T G V R own col f1 f2 hg (xs (i + 1))) hx hb hml hown hts hA hK hT hS (lw_V q86 q87 q88 q21 q89) (by decide +kernel) rfl ⟨Nat.le_of_ble_eq_true rfl, Nat.le_of_ble_eq_true rfl⟩ rfl rfl rfl rfl hl.1 (Nat.le_of_ble_eq_true rfl) ⟨Nat.le_of_ble_eq_true rfl, Nat.le_of_ble_eq_true rfl⟩ dL_law_218 (fun r1 u H locs hw1 hT hS => ?_)
        refine lv_aload_n hx hb dL_law_221 rfl (lv_at hl 2 rfl) ?_
        refine lv_aload_n hx hb dL_law_222 rfl (lv_at hl 3 rfl) ?_
        refine lv_iload_n hx hb dL_law_223 rfl (lv_at hl 0 rfl) ?_
        refine lv_iconst (v := nI 1) hx hb dL_law_224 (by decide) ?_
        refine lv_iadd hx hb dL_law_225 ?_
        refine x_sld (i + 1) (nI_add i 1) (by omega) (by omega) hx hb hX hbl hbA hS dL_law_226 ?_
        have hT := hT.swap
        refine x2_vi [.int (xs (i + 1))] [.int r1] 1 (m1_winner l D ae d kn wi O2 C2 F2 S2 R2 own col f1 f2 ht hkc (xs (i + 1))) hx hb hml hown hts hA hK hT hS (lw_V q222 q223 q224 q22 q225) (by decide +kernel) rfl ⟨Nat.le_of_ble_eq_true rfl, Nat.le_of_ble_eq_true rfl⟩ rfl rfl rfl rfl hl.1 (Nat.le_of_ble_eq_true rfl) ⟨Nat.le_of_ble_eq_true rfl, Nat.le_of_ble_eq_true rfl⟩ dL_law_227 (fun r2 v H locs hw2 hT hS => ?_)
        refine lv_icmp_eq (tgt := 373) hx hb dL_law_230 (by decide) (fun _ => ?_) (fun cc9 => absurd (hw1.1.trans hw2.1.symm) cc9)
        refine lv_iinc (v := nI (i + 5)) (lv' := [(3, .int (nI (i + 5))), (1, .ref (ad 0)), (2, .ref (ae 0)), (0, .ref b)]) hx hb dL_law_373 hl (k := 0) rfl (nI_i5 _) (by decide) rfl (fun ls hl => ?_)
        refine lv_goto (tgt := 18) hx hb dL_law_376 (by decide) ?_
        exact ih (i + 5) own col f1 f2 u v (by omega) (by omega) hw1.2 hw2.2 H locs ls hT.swap hS (lv_sub hl [0, 1, 2, 3] rfl)
      · refine lv_tableIn (off := 203) (tgt := 235) hx hb dL_law_32 (by decide) (by decide) rfl (by decide) ?_
        refine lv_aload_n hx hb dL_law_235 rfl (lv_at hl 1 rfl) ?_
        refine x2_vi [] [] 0 (m0_region l D ad d one dep C F S L T G V R own col f1 f2 hg) hx hb hml hown hts hA hK hT hS (lw_V q126 q127 q128 q21 q129) (by decide +kernel) rfl ⟨Nat.le_of_ble_eq_true rfl, Nat.le_of_ble_eq_true rfl⟩ rfl rfl rfl rfl hl.1 (Nat.le_of_ble_eq_true rfl) ⟨Nat.le_of_ble_eq_true rfl, Nat.le_of_ble_eq_true rfl⟩ dL_law_236 (fun r1 u H locs hw1 hT hS => ?_)
        refine lv_aload_n hx hb dL_law_239 rfl (lv_at hl 2 rfl) ?_
        have hT := hT.swap
        refine x2_vi [] [.int r1] 0 (m1_region l D ae d kn wi O2 C2 F2 S2 R2 own col f1 f2 ht hkc) hx hb hml hown hts hA hK hT hS (lw_V q242 q227 q228 q22 q229) (by decide +kernel) rfl ⟨Nat.le_of_ble_eq_true rfl, Nat.le_of_ble_eq_true rfl⟩ rfl rfl rfl rfl hl.1 (Nat.le_of_ble_eq_true rfl) ⟨Nat.le_of_ble_eq_true rfl, Nat.le_of_ble_eq_true rfl⟩ dL_law_240 (fun r2 v H locs hw2 hT hS => ?_)
        refine lv_icmp_eq (tgt := 373) hx hb dL_law_243 (by decide) (fun _ => ?_) (fun cc9 => absurd (rgn_same hw1.1 hw2.1) cc9)
        refine lv_iinc (v := nI (i + 5)) (lv' := [(3, .int (nI (i + 5))), (1, .ref (ad 0)), (2, .ref (ae 0)), (0, .ref b)]) hx hb dL_law_373 hl (k := 0) rfl (nI_i5 _) (by decide) rfl (fun ls hl => ?_)
        refine lv_goto (tgt := 18) hx hb dL_law_376 (by decide) ?_
        exact ih (i + 5) own col f1 f2 u v (by omega) (by omega) hw1.2 hw2.2 H locs ls hT.swap hS (lv_sub hl [0, 1, 2, 3] rfl)
      · refine lv_tableIn (off := 216) (tgt := 248) hx hb dL_law_32 (by decide) (by decide) rfl (by decide) ?_
        refine lv_aload_n hx hb dL_law_248 rfl (lv_at hl 1 rfl) ?_
        refine lv_aload_n hx hb dL_law_249 rfl (lv_at hl 3 rfl) ?_
        refine lv_iload_n hx hb dL_law_250 rfl (lv_at hl 0 rfl) ?_
        refine lv_iconst (v := nI 1) hx hb dL_law_251 (by decide) ?_
        refine lv_iadd hx hb dL_law_252 ?_
        refine x_sld (i + 1) (nI_add i 1) (by omega) (by omega) hx hb hX hbl hbA hS dL_law_253 ?_
        refine lv_aload_n hx hb dL_law_254 rfl (lv_at hl 3 rfl) ?_
        refine lv_iload_n hx hb dL_law_255 rfl (lv_at hl 0 rfl) ?_
        refine lv_iconst (v := nI 2) hx hb dL_law_256 (by decide) ?_
        refine lv_iadd hx hb dL_law_257 ?_
        refine x_sld (i + 2) (nI_add i 2) (by omega) (by omega) hx hb hX hbl hbA hS dL_law_258 ?_
        refine x2_vi [.int (xs (i + 1)), .int (xs (i + 2))] [] 2 (m0_good l D ad d one dep C F S L T G V R own col f1 f2 hg (xs (i + 1)) (xs (i + 2))) hx hb hml hown hts hA hK hT hS (lw_V q130 q131 q132 q21 q133) (by decide +kernel) rfl ⟨Nat.le_of_ble_eq_true rfl, Nat.le_of_ble_eq_true rfl⟩ rfl rfl rfl rfl hl.1 (Nat.le_of_ble_eq_true rfl) ⟨Nat.le_of_ble_eq_true rfl, Nat.le_of_ble_eq_true rfl⟩ dL_law_259 (fun r1 u H locs hw1 hT hS => ?_)
        refine lv_aload_n hx hb dL_law_262 rfl (lv_at hl 2 rfl) ?_
        refine lv_aload_n hx hb dL_law_263 rfl (lv_at hl 3 rfl) ?_
        refine lv_iload_n hx hb dL_law_264 rfl (lv_at hl 0 rfl) ?_
        refine lv_iconst (v := nI 1) hx hb dL_law_265 (by decide) ?_
        refine lv_iadd hx hb dL_law_266 ?_
        refine x_sld (i + 1) (nI_add i 1) (by omega) (by omega) hx hb hX hbl hbA hS dL_law_267 ?_
        refine lv_aload_n hx hb dL_law_268 rfl (lv_at hl 3 rfl) ?_
        refine lv_iload_n hx hb dL_law_269 rfl (lv_at hl 0 rfl) ?_
        refine lv_iconst (v := nI 2) hx hb dL_law_270 (by decide) ?_
        refine lv_iadd hx hb dL_law_271 ?_
        refine x_sld (i + 2) (nI_add i 2) (by omega) (by omega) hx hb hX hbl hbA hS dL_law_272 ?_
        have hT := hT.swap
        refine x2_vi [.int (xs (i + 1)), .int (xs (i + 2))] [.int r1] 2 (m1_good l D ae d kn wi O2 C2 F2 S2 R2 own col f1 f2 ht hkc (xs (i + 1)) (xs (i + 2))) hx hb hml hown hts hA hK hT hS (lw_V q243 q244 q245 q22 q246) (by decide +kernel) rfl ⟨Nat.le_of_ble_eq_true rfl, Nat.le_of_ble_eq_true rfl⟩ rfl rfl rfl rfl hl.1 (Nat.le_of_ble_eq_true rfl) ⟨Nat.le_of_ble_eq_true rfl, Nat.le_of_ble_eq_true rfl⟩ dL_law_273 (fun r2 v H locs hw2 hT hS => ?_)
        refine lv_icmp_eq (tgt := 373) hx hb dL_law_276 (by decide) (fun _ => ?_) (fun cc9 => absurd (hw1.1.trans hw2.1.symm) cc9)
        refine lv_iinc (v := nI (i + 5)) (lv' := [(3, .int (nI (i + 5))), (1, .ref (ad 0)), (2, .ref (ae 0)), (0, .ref b)]) hx hb dL_law_373 hl (k := 0) rfl (nI_i5 _) (by decide) rfl (fun ls hl => ?_)
        refine lv_goto (tgt := 18) hx hb dL_law_376 (by decide) ?_
        exact ih (i + 5) own col f1 f2 u v (by omega) (by omega) hw1.2 hw2.2 H locs ls hT.swap hS (lv_sub hl [0, 1, 2, 3] rfl)
      · refine lv_tableIn (off := 249) (tgt := 281) hx hb dL_law_32 (by decide) (by decide) rfl (by decide) ?_
        refine lv_aload_n hx hb dL_law_281 rfl (lv_at hl 1 rfl) ?_
        refine lv_aload_n hx hb dL_law_282 rfl (lv_at hl 3 rfl) ?_
        refine lv_iload_n hx hb dL_law_283 rfl (lv_at hl 0 rfl) ?_
        refine lv_iconst (v := nI 1) hx hb dL_law_284 (by decide) ?_
        refine lv_iadd hx hb dL_law_285 ?_
        refine x_sld (i + 1) (nI_add i 1) (by omega) (by omega) hx hb hX hbl hbA hS dL_law_286 ?_
        refine x2_vi [.int (xs (i + 1))] [] 1 (m0_plans l D ad d one dep C F S L T G V R own col f1 f2 hg (xs (i + 1))) hx hb hml hown hts hA hK hT hS (lw_V q154 q155 q156 q21 q157) (by decide +kernel) rfl ⟨Nat.le_of_ble_eq_true rfl, Nat.le_of_ble_eq_true rfl⟩ rfl rfl rfl rfl hl.1 (Nat.le_of_ble_eq_true rfl) ⟨Nat.le_of_ble_eq_true rfl, Nat.le_of_ble_eq_true rfl⟩ dL_law_287 (fun r1 u H locs hw1 hT hS => ?_)
        refine lv_aload_n hx hb dL_law_290 rfl (lv_at hl 2 rfl) ?_
        refine lv_aload_n hx hb dL_law_291 rfl (lv_at hl 3 rfl) ?_
        refine lv_iload_n hx hb dL_law_292 rfl (lv_at hl 0 rfl) ?_
        refine lv_iconst (v := nI 1) hx hb dL_law_293 (by decide) ?_
        refine lv_iadd hx hb dL_law_294 ?_
        refine x_sld (i + 1) (nI_add i 1) (by omega) (by omega) hx hb hX hbl hbA hS dL_law_295 ?_
        have hT := hT.swap
        refine x2_vi [.int (xs (i + 1))] [.int r1] 1 (m1_plans l D ae d kn wi O2 C2 F2 S2 R2 own col f1 f2 ht hkc (xs (i + 1))) hx hb hml hown hts hA hK hT hS (lw_V q247 q248 q249 q22 q250) (by decide +kernel) rfl ⟨Nat.le_of_ble_eq_true rfl, Nat.le_of_ble_eq_true rfl⟩ rfl rfl rfl rfl hl.1 (Nat.le_of_ble_eq_true rfl) ⟨Nat.le_of_ble_eq_true rfl, Nat.le_of_ble_eq_true rfl⟩ dL_law_296 (fun r2 v H locs hw2 hT hS => ?_)
        refine lv_icmp_eq (tgt := 373) hx hb dL_law_299 (by decide) (fun _ => ?_) (fun cc9 => absurd (hw1.1.trans hw2.1.symm) cc9)
        refine lv_iinc (v := nI (i + 5)) (lv' := [(3, .int (nI (i + 5))), (1, .ref (ad 0)), (2, .ref (ae 0)), (0, .ref b)]) hx hb dL_law_373 hl (k := 0) rfl (nI_i5 _) (by decide) rfl (fun ls hl => ?_)
        refine lv_goto (tgt := 18) hx hb dL_law_376 (by decide) ?_
        exact ih (i + 5) own col f1 f2 u v (by omega) (by omega) hw1.2 hw2.2 H locs ls hT.swap hS (lv_sub hl [0, 1, 2, 3] rfl)
      · refine lv_tableIn (off := 272) (tgt := 304) hx hb dL_law_32 (by decide) (by decide) rfl (by decide) ?_
        refine lv_aload_n hx hb dL_law_304 rfl (lv_at hl 1 rfl) ?_
        refine lv_aload_n hx hb dL_law_305 rfl (lv_at hl 3 rfl) ?_
        refine lv_iload_n hx hb dL_law_306 rfl (lv_at hl 0 rfl) ?_
        refine lv_iconst (v := nI 1) hx hb dL_law_307 (by decide) ?_
        refine lv_iadd hx hb dL_law_308 ?_
        refine x_sld (i + 1) (nI_add i 1) (by omega) (by omega) hx hb hX hbl hbA hS dL_law_309 ?_
        refine x2_vi [.int (xs (i + 1))] [] 1 (m0_firstPlan l D ad d one dep C F S L T G V R own col f1 f2 hg (xs (i + 1))) hx hb hml hown hts hA hK hT hS (lw_V q158 q159 q160 q21 q161) (by decide +kernel) rfl ⟨Nat.le_of_ble_eq_true rfl, Nat.le_of_ble_eq_true rfl⟩ rfl rfl rfl rfl hl.1 (Nat.le_of_ble_eq_true rfl) ⟨Nat.le_of_ble_eq_true rfl, Nat.le_of_ble_eq_true rfl⟩ dL_law_310 (fun r1 u H locs hw1 hT hS => ?_)
        refine lv_aload_n hx hb dL_law_313 rfl (lv_at hl 2 rfl) ?_
        refine lv_aload_n hx hb dL_law_314 rfl (lv_at hl 3 rfl) ?_
        refine lv_iload_n hx hb dL_law_315 rfl (lv_at hl 0 rfl) ?_
        refine lv_iconst (v := nI 1) hx hb dL_law_316 (by decide) ?_
        refine lv_iadd hx hb dL_law_317 ?_
        refine x_sld (i + 1) (nI_add i 1) (by omega) (by omega) hx hb hX hbl hbA hS dL_law_318 ?_
        have hT := hT.swap
        refine x2_vi [.int (xs (i + 1))] [.int r1] 1 (m1_firstPlan l D ae d kn wi O2 C2 F2 S2 R2 own col f1 f2 ht hkc (xs (i + 1))) hx hb hml hown hts hA hK hT hS (lw_V q252 q253 q254 q22 q255) (by decide +kernel) rfl ⟨Nat.le_of_ble_eq_true rfl, Nat.le_of_ble_eq_true rfl⟩ rfl rfl rfl rfl hl.1 (Nat.le_of_ble_eq_true rfl) ⟨Nat.le_of_ble_eq_true rfl, Nat.le_of_ble_eq_true rfl⟩ dL_law_319 (fun r2 v H locs hw2 hT hS => ?_)
        refine lv_icmp_eq (tgt := 373) hx hb dL_law_322 (by decide) (fun _ => ?_) (fun cc9 => absurd (a_first_same hw1.1 hw2.1) cc9)
        refine lv_iinc (v := nI (i + 5)) (lv' := [(3, .int (nI (i + 5))), (1, .ref (ad 0)), (2, .ref (ae 0)), (0, .ref b)]) hx hb dL_law_373 hl (k := 0) rfl (nI_i5 _) (by decide) rfl (fun ls hl => ?_)
        refine lv_goto (tgt := 18) hx hb dL_law_376 (by decide) ?_
        exact ih (i + 5) own col f1 f2 u v (by omega) (by omega) hw1.2 hw2.2 H locs ls hT.swap hS (lv_sub hl [0, 1, 2, 3] rfl)
      · refine lv_tableIn (off := 295) (tgt := 327) hx hb dL_law_32 (by decide) (by decide) rfl (by decide) ?_
        refine lv_aload_n hx hb dL_law_327 rfl (lv_at hl 1 rfl) ?_
        refine lv_aload_n hx hb dL_law_328 rfl (lv_at hl 3 rfl) ?_
        refine lv_iload_n hx hb dL_law_329 rfl (lv_at hl 0 rfl) ?_
        refine lv_iconst (v := nI 1) hx hb dL_law_330 (by decide) ?_
        refine lv_iadd hx hb dL_law_331 ?_
        refine x_sld (i + 1) (nI_add i 1) (by omega) (by omega) hx hb hX hbl hbA hS dL_law_332 ?_
        refine lv_aload_n hx hb dL_law_333 rfl (lv_at hl 3 rfl) ?_
        refine lv_iload_n hx hb dL_law_334 rfl (lv_at hl 0 rfl) ?_
        refine lv_iconst (v := nI 2) hx hb dL_law_335 (by decide) ?_
        refine lv_iadd hx hb dL_law_336 ?_
        refine x_sld (i + 2) (nI_add i 2) (by omega) (by omega) hx hb hX hbl hbA hS dL_law_337 ?_
        refine x2_vi [.int (xs (i + 1)), .int (xs (i + 2))] [] 2 (m0_canForce l D ad d one dep C F S L T G V R own col f1 f2 hg (xs (i + 1)) (xs (i + 2))) hx hb hml hown hts hA hK hT hS (lw_V q162 q163 q164 q21 q165) (by decide +kernel) rfl ⟨Nat.le_of_ble_eq_true rfl, Nat.le_of_ble_eq_true rfl⟩ rfl rfl rfl rfl hl.1 (Nat.le_of_ble_eq_true rfl) ⟨Nat.le_of_ble_eq_true rfl, Nat.le_of_ble_eq_true rfl⟩ dL_law_338 (fun r1 u H locs hw1 hT hS => ?_)
        refine lv_aload_n hx hb dL_law_341 rfl (lv_at hl 2 rfl) ?_
        refine lv_aload_n hx hb dL_law_342 rfl (lv_at hl 3 rfl) ?_
        refine lv_iload_n hx hb dL_law_343 rfl (lv_at hl 0 rfl) ?_
        refine lv_iconst (v := nI 1) hx hb dL_law_344 (by decide) ?_
        refine lv_iadd hx hb dL_law_345 ?_
        refine x_sld (i + 1) (nI_add i 1) (by omega) (by omega) hx hb hX hbl hbA hS dL_law_346 ?_
        refine lv_aload_n hx hb dL_law_347 rfl (lv_at hl 3 rfl) ?_
        refine lv_iload_n hx hb dL_law_348 rfl (lv_at hl 0 rfl) ?_
        refine lv_iconst (v := nI 2) hx hb dL_law_349 (by decide) ?_
        refine lv_iadd hx hb dL_law_350 ?_
        refine x_sld (i + 2) (nI_add i 2) (by omega) (by omega) hx hb hX hbl hbA hS dL_law_351 ?_
        have hT := hT.swap
        refine x2_vi [.int (xs (i + 1)), .int (xs (i + 2))] [.int r1] 2 (m1_canForce l D ae d kn wi O2 C2 F2 S2 R2 (xs (i + 1)) (xs (i + 2))) hx hb hml hown hts hA hK hT hS (lw_V q256 q257 q258 q22 q259) (by decide +kernel) rfl ⟨Nat.le_of_ble_eq_true rfl, Nat.le_of_ble_eq_true rfl⟩ rfl rfl rfl rfl hl.1 (Nat.le_of_ble_eq_true rfl) ⟨Nat.le_of_ble_eq_true rfl, Nat.le_of_ble_eq_true rfl⟩ dL_law_352 (fun r2 v H locs hw2 hT hS => ?_)
        refine lv_icmp_eq (tgt := 373) hx hb dL_law_355 (by decide) (fun _ => ?_) (fun cc9 => absurd (cf_same hw1.1 hw2.1 (cf_iff hg ht)) cc9)
        refine lv_iinc (v := nI (i + 5)) (lv' := [(3, .int (nI (i + 5))), (1, .ref (ad 0)), (2, .ref (ae 0)), (0, .ref b)]) hx hb dL_law_373 hl (k := 0) rfl (nI_i5 _) (by decide) rfl (fun ls hl => ?_)
        refine lv_goto (tgt := 18) hx hb dL_law_376 (by decide) ?_
        exact ih (i + 5) own col f1 f2 u v (by omega) (by omega) (by rw [hw1.2]; exact hg) (by rw [hw2.2]; exact ⟨ht, hkc⟩) H locs ls hT.swap hS (lv_sub hl [0, 1, 2, 3] rfl)
      · refine lv_tableIn (off := 328) (tgt := 360) hx hb dL_law_32 (by decide) (by decide) rfl (by decide) ?_
        refine lv_aload_n hx hb dL_law_360 rfl (lv_at hl 1 rfl) ?_
        refine x2_vi [] [] 0 (m0_contested l D ad d one dep C F S L T G V R own col f1 f2 hg) hx hb hml hown hts hA hK hT hS (lw_V q166 q167 q168 q21 q169) (by decide +kernel) rfl ⟨Nat.le_of_ble_eq_true rfl, Nat.le_of_ble_eq_true rfl⟩ rfl rfl rfl rfl hl.1 (Nat.le_of_ble_eq_true rfl) ⟨Nat.le_of_ble_eq_true rfl, Nat.le_of_ble_eq_true rfl⟩ dL_law_361 (fun r1 u H locs hw1 hT hS => ?_)
        refine lv_aload_n hx hb dL_law_364 rfl (lv_at hl 2 rfl) ?_
        have hT := hT.swap
        refine x2_vi [] [.int r1] 0 (m1_contested l D ae d kn wi O2 C2 F2 S2 R2 own col f1 f2 ht hkc) hx hb hml hown hts hA hK hT hS (lw_V q260 q261 q262 q22 q263) (by decide +kernel) rfl ⟨Nat.le_of_ble_eq_true rfl, Nat.le_of_ble_eq_true rfl⟩ rfl rfl rfl rfl hl.1 (Nat.le_of_ble_eq_true rfl) ⟨Nat.le_of_ble_eq_true rfl, Nat.le_of_ble_eq_true rfl⟩ dL_law_365 (fun r2 v H locs hw2 hT hS => ?_)
        refine lv_icmp_eq (tgt := 373) hx hb dL_law_368 (by decide) (fun _ => ?_) (fun cc9 => absurd (hw1.1.trans hw2.1.symm) cc9)
        refine lv_iinc (v := nI (i + 5)) (lv' := [(3, .int (nI (i + 5))), (1, .ref (ad 0)), (2, .ref (ae 0)), (0, .ref b)]) hx hb dL_law_373 hl (k := 0) rfl (nI_i5 _) (by decide) rfl (fun ls hl => ?_)
        refine lv_goto (tgt := 18) hx hb dL_law_376 (by decide) ?_
        exact ih (i + 5) own col f1 f2 u v (by omega) (by omega) hw1.2 hw2.2 H locs ls hT.swap hS (lv_sub hl [0, 1, 2, 3] rfl)
      · refine lv_tableOut (tgt := 373) hx hb dL_law_32 (Or.inr (by decide)) (by decide) ?_
        refine lv_iinc (v := nI (i + 5)) (lv' := [(3, .int (nI (i + 5))), (1, .ref (ad 0)), (2, .ref (ae 0)), (0, .ref b)]) hx hb dL_law_373 hl (k := 0) rfl (nI_i5 _) (by decide) rfl (fun ls hl => ?_)
        refine lv_goto (tgt := 18) hx hb dL_law_376 (by decide) ?_
        exact ih (i + 5) own col f1 f2 (one, dep, C, F, S, L, T, G, V, R) (O2, C2, F2, S2, R2, kn, wi) (by omega) (by omega) hg ⟨ht, hkc⟩ H locs ls hT hS (lv_sub hl [0, 1, 2, 3] rfl)
      · refine lv_tableOut (tgt := 373) hx hb dL_law_32 (Or.inr (by decide)) (by decide) ?_
        refine lv_iinc (v := nI (i + 5)) (lv' := [(3, .int (nI (i + 5))), (1, .ref (ad 0)), (2, .ref (ae 0)), (0, .ref b)]) hx hb dL_law_373 hl (k := 0) rfl (nI_i5 _) (by decide) rfl (fun ls hl => ?_)
        refine lv_goto (tgt := 18) hx hb dL_law_376 (by decide) ?_
        exact ih (i + 5) own col f1 f2 (one, dep, C, F, S, L, T, G, V, R) (O2, C2, F2, S2, R2, kn, wi) (by omega) (by omega) hg ⟨ht, hkc⟩ H locs ls hT hS (lv_sub hl [0, 1, 2, 3] rfl)
      · refine lv_tableOut (tgt := 373) hx hb dL_law_32 (Or.inr (by decide)) (by decide) ?_
        refine lv_iinc (v := nI (i + 5)) (lv' := [(3, .int (nI (i + 5))), (1, .ref (ad 0)), (2, .ref (ae 0)), (0, .ref b)]) hx hb dL_law_373 hl (k := 0) rfl (nI_i5 _) (by decide) rfl (fun ls hl => ?_)
        refine lv_goto (tgt := 18) hx hb dL_law_376 (by decide) ?_
        exact ih (i + 5) own col f1 f2 (one, dep, C, F, S, L, T, G, V, R) (O2, C2, F2, S2, R2, kn, wi) (by omega) (by omega) hg ⟨ht, hkc⟩ H locs ls hT hS (lv_sub hl [0, 1, 2, 3] rfl)
      · refine lv_tableOut (tgt := 373) hx hb dL_law_32 (Or.inr (by decide)) (by decide) ?_
        refine lv_iinc (v := nI (i + 5)) (lv' := [(3, .int (nI (i + 5))), (1, .ref (ad 0)), (2, .ref (ae 0)), (0, .ref b)]) hx hb dL_law_373 hl (k := 0) rfl (nI_i5 _) (by decide) rfl (fun ls hl => ?_)
        refine lv_goto (tgt := 18) hx hb dL_law_376 (by decide) ?_
        exact ih (i + 5) own col f1 f2 (one, dep, C, F, S, L, T, G, V, R) (O2, C2, F2, S2, R2, kn, wi) (by omega) (by omega) hg ⟨ht, hkc⟩ H locs ls hT hS (lv_sub hl [0, 1, 2, 3] rfl)
      · refine lv_tableOut (tgt := 373) hx hb dL_law_32 (Or.inr (by decide)) (by decide) ?_
        refine lv_iinc (v := nI (i + 5)) (lv' := [(3, .int (nI (i + 5))), (1, .ref (ad 0)), (2, .ref (ae 0)), (0, .ref b)]) hx hb dL_law_373 hl (k := 0) rfl (nI_i5 _) (by decide) rfl (fun ls hl => ?_)
        refine lv_goto (tgt := 18) hx hb dL_law_376 (by decide) ?_
        exact ih (i + 5) own col f1 f2 (one, dep, C, F, S, L, T, G, V, R) (O2, C2, F2, S2, R2, kn, wi) (by omega) (by omega) hg ⟨ht, hkc⟩ H locs ls hT hS (lv_sub hl [0, 1, 2, 3] rfl)
set_option maxHeartbeats 4000000 in
set_option maxRecDepth 100000 in
/-- from the entry, for every script of at most 320 ints, the law comes to its end with true -/
theorem whole_start {p : Program} {e : Env} {s : State} {m : MethodId} {below : List Frame} {meth : Method} {c : Code} (l : Launch) {b L : Nat} {xs : Nat → Int32} (hL : L ≤ 320) (C0 : lw_At p s m meth c b L xs) : W p l e room_1 s m #[Value.ref b] below meth c s.heap [] 0 0 (lw_Z below #[Value.ref b] s) (entryFrame m ([Value.ref b] : List Value).toArray 4) := by
  obtain ⟨hx, hb, hr, hml, hown, hts0, hX, hbl, hlocks, hgv⟩ := id C0
  have hown : s.vm.findClass "ParityGameLaw" = some m.cls := hown
  have hts : ∀ w ∈ lw_all, w.before #[Value.ref b] s = true := fun w h => hts0 w (lw_all_tbl h)
  have hA : ∀ q : Nat, s.heap.size ≤ q → (fun q : Nat => s.heap.size ≤ q) q := fun _ h => h
  obtain ⟨c0_, iS0, hKn0⟩ := u_known (C := RX0) (T := TX0) (N := 10) (n := 10) hts in_X0 (hts _ q24)
  obtain ⟨c1_, iS1, hKn1⟩ := u_known (C := RX1) (T := TX1) (N := 7) (n := 7) hts in_X1 (hts _ q171)
  obtain ⟨D, hKc⟩ : ∃ D : va_G, ∀ (k : Nat) (q : vw_C), vwCl[k]? = some q → u_Kn s q.1 q.2.1 q.2.2 (D.1 k) (D.2 k) := by
    refine ⟨(fun k => if k = 0 then c0_ else c1_, fun k => if k = 0 then iS0 else iS1), ?_⟩
    intro k q hq
    match k, hq with
    | 0, hq => cases hq; exact hKn0
    | 1, hq => cases hq; exact hKn1
    | k + 2, hq => simp [vwCl] at hq
  have hS : va_S (fun q : Nat => s.heap.size ≤ q) s.heap s.heap [] := va_S.rf
  have hK : va_K D vwCl [] s := ⟨hKc, fun k q h => by simp at h⟩
  have hP : va_P D vwCl [] s.heap := fun k q h => by simp at h
  have hD : va_D (fun q : Nat => s.heap.size ≤ q) [] := ⟨fun i j p q h => by simp at h, fun k q h => by simp at h⟩
  have hl := lv_entry ([.ref b]) (n := 4) (Nat.le_of_ble_eq_true rfl)
  rw [lg_entry_eq]
  generalize (lg_sl ([.ref b]) ++ List.replicate (4 - (lg_sl ([.ref b])).length) Slot.unset).toArray = ls at hl ⊢
  have hl : lv_has ls 4 [(0, .ref b)] := hl
  refine va_new (ci := 0) (fs := [.int 0, .null, .null, .null, .int 0, .null, .null, .null, .null, .null]) (C := RX0) (T := TX0) (N := 10) hx hb hts in_X0 tyX0 tyX0_ok hown (hts _ q23) (hts _ q24) (hts _ q21) hK hP hD hS hA rfl (fun j hj => by rcases (show j = 0 ∨ j = 1 ∨ j = 2 ∨ j = 3 ∨ j = 4 ∨ j = 5 ∨ j = 6 ∨ j = 7 ∨ j = 8 ∨ j = 9 by omega) with rfl | rfl | rfl | rfl | rfl | rfl | rfl | rfl | rfl | rfl <;> rfl) (Nat.le_of_ble_eq_true rfl) (Nat.le_of_ble_eq_true rfl) dL_law_0 (fun q0_ H hP hD hS => ?_)
  refine lv_dup hx hb dL_law_3 rfl ?_
  have hT0 := two.of (wa := [(q0_, .inr (0, [.int 0, .null, .null, .null, .int 0, .null, .null, .null, .null, .null]))]) (wb := []) hP hD
  refine x2_cn [.ref q0_] (m0_init l D q0_) hx hb hml hown hts hA hK hT0 hS (lw_meth q27) rfl rfl (hts _ q21) (hts _ q25) (hts _ q26) rfl (by decide +kernel) ⟨Nat.le_of_ble_eq_true rfl, Nat.le_of_ble_eq_true rfl⟩ rfl hl.1 (Nat.le_of_ble_eq_true rfl) ⟨Nat.le_of_ble_eq_true rfl, Nat.le_of_ble_eq_true rfl⟩ dL_law_4 (fun u H locs hw hK hT hS => ?_)
  clear hT0
  obtain ⟨ad, d⟩ := u
  have hw : ad 0 = q0_ := hw
  subst hw
  have hK : va_K D vwCl [(d, .int)] s := hK
  refine lv_astore_n (lv' := [(1, .ref (ad 0)), (0, .ref b)]) hx hb dL_law_7 rfl hl (by decide) rfl (fun ls hl => ?_)
  refine va_new (ci := 1) (fs := [.null, .null, .null, .null, .null, .int 0, .int 0]) (C := RX1) (T := TX1) (N := 7) hx hb hts in_X1 tyX1 tyX1_ok hown (hts _ q170) (hts _ q171) (hts _ q22) hK hT.1 hT.2.2.1 hS hA rfl (fun j hj => by rcases (show j = 0 ∨ j = 1 ∨ j = 2 ∨ j = 3 ∨ j = 4 ∨ j = 5 ∨ j = 6 by omega) with rfl | rfl | rfl | rfl | rfl | rfl | rfl <;> rfl) (Nat.le_of_ble_eq_true rfl) (Nat.le_of_ble_eq_true rfl) dL_law_8 (fun q1_ H hP hD hS => ?_)
  refine lv_dup hx hb dL_law_11 rfl ?_
  have hT1 := (two.of hP hD).swap
  refine x2_cn [.ref q1_] (m1_init l D q1_) hx hb hml hown hts hA hK hT1 hS (lw_meth q174) rfl rfl (hts _ q22) (hts _ q172) (hts _ q173) rfl (by decide +kernel) ⟨Nat.le_of_ble_eq_true rfl, Nat.le_of_ble_eq_true rfl⟩ rfl hl.1 (Nat.le_of_ble_eq_true rfl) ⟨Nat.le_of_ble_eq_true rfl, Nat.le_of_ble_eq_true rfl⟩ dL_law_12 (fun u H locs hw hK2 hT hS => ?_)
  clear hT1
  obtain ⟨ae, d2⟩ := u
  have hw : ae 0 = q1_ := hw
  subst hw
  have hK2 : va_K D vwCl [(d2, .int)] s := hK2
  have hKK : va_K D vwCl [(d, .int), (d2, .int)] s := hK.app hK2
  obtain rfl : d2 = d := cA_same hKK 1 0 rfl rfl
  refine lv_astore_n (lv' := [(2, .ref (ae 0)), (1, .ref (ad 0)), (0, .ref b)]) hx hb dL_law_15 rfl hl (by decide) rfl (fun ls hl => ?_)
  refine lv_iconst (v := nI 0) hx hb dL_law_16 (by decide) ?_
  refine lv_istore_n (lv' := [(3, .int (nI 0)), (2, .ref (ae 0)), (1, .ref (ad 0)), (0, .ref b)]) hx hb dL_law_17 rfl hl (by decide) rfl (fun ls hl => ?_)
  refine W.widen (k := 15) (n := 127) (by decide) (by decide) ?_
  exact law_loop l hL C0 hK2 ad ae L 0 (fun _ => 0) (fun _ => 0) (fun q => q) (fun q => q) (0, 0, fun _ => 0, idn 8, idn 8, fun _ => 0, fun _ => 0, fun _ => 0, fun _ => 0, fun _ => 0) (fun _ => 0, fun _ => 0, idn 8, idn 8, fun _ => 0, 0, 0) (Nat.zero_le _) (by omega) gv_0 ⟨tv_0, Or.inl rfl⟩ H locs ls hT.swap hS (lv_sub hl [0, 2, 1, 3] rfl)
end
section
/-! the claim out of the law's walk (the skeleton's end) -/
set_option maxHeartbeats 4000000 in
theorem lw_walk (l : Launch) (b : Addr) (xs : List Int32) : MetFree l x (headSpec (Jvm.Cond.code x code maxLocals ret :: tables_1) room_1) (lw_P b xs) (fun _ _ _ _ _ => True) lw_Q := by
  refine MetFree.of_bodyS (code := code) (maxLocals := maxLocals) (ret := ret) (by decide) ?_ ?_
  · intro args s m h hn
    obtain ⟨meth, c, h1, h2, h3, h4, h5, h6, -, -⟩ := Cond.code_spec hn (atoms_spec (ws := Jvm.Cond.code x code maxLocals ret :: tables_1) h _ List.mem_cons_self)
    exact ⟨meth, c, h1, h2, h3, h4, h5, h6⟩
  · intro p e s m args below meth c s₁ B hml0 hP _
    obtain ⟨rfl, hx, hbd, hgv⟩ := hP
    obtain ⟨scr, harrAt, hlist, hof, hsmall⟩ := hx
    obtain ⟨hcb, hkn, -, -⟩ := State.arrayAt?_spec harrAt
    have hown : s.vm.findClass R_law = some m.cls := findClass_of_methodNamed B.named
    have hts0 : ∀ c ∈ (Jvm.Cond.code x code maxLocals ret :: tables_1), c.before #[Value.ref b] s = true := atoms_spec (ws := Jvm.Cond.code x code maxLocals ret :: tables_1) B.pre
    have hts : ∀ w ∈ lw_tbl, w.before #[Value.ref b] s = true := k2_hts_sels lw_privs (fun w hw => hts0 w (List.mem_cons_of_mem _ hw)) lw_privs_ok
    have hml : c.maxLocals = 4 := B.maxLocals_eq (hts0 _ List.mem_cons_self)
    have X₀ : Stand p l e room_1 s m #[Value.ref b] below meth c s₁ [] 0 0 := Stand.of_body B
    have hh0 : s₁.heap = s.heap := by rw [B.state]; rfl
    have hsz : scr.slots.size = xs.length := by rw [← Array.length_toList, hlist, List.length_map]
    have hval : ∀ j : Nat, j < xs.length → scr.slots[j]? = some (.int (xs.getD j 0)) := fun j hj => by
      rw [← Array.getElem?_toList, hlist]
      simp [hj]
    have hbl : b < s.heap.size := (Array.getElem?_eq_some_iff.mp hcb).1
    have hX : va_X b xs.length (fun j => xs.getD j 0) s s.heap := ⟨scr, hcb, hof, hkn, hsz, hval⟩
    have K : W p l e room_1 s m #[Value.ref b] below meth c s₁.heap [] 0 0 (lw_Z below #[Value.ref b] s) (entryFrame m ([Value.ref b] : List Value).toArray 4) := by
      rw [hh0]
      exact whole_start l hbd ⟨B.exec, B.bytes, B.returns, hml, hown, hts, hX, hbl, B.notSynchronized, hgv⟩
    obtain ⟨t, a1, o, b1, b2, b3⟩ := K s₁ rfl X₀
    exact ⟨t, o, a1, b1, b2, b3⟩
theorem lw_pre_spec {args : Array Value} {s : State} (h : (Jvm.Cond.and given_1 narrow_1).before args s = true) (hr : rest_1_c.before args s = true) : ∃ (b : Addr) (xs : List Int32), lw_P b xs args s := by
  have hs := flat_of_before _ h
  have hq := flat_of_before _ hr
  have hc : (Cond.count 1).before args s = true := hs _ (by decide +kernel)
  have harr : (Cond.arrayOf (.arg 0) .int).before args s = true := hs _ (by decide +kernel)
  have hle : (Cond.le (.length (.arg 0)) (.int 320)).before args s = true := hs _ (by decide +kernel)
  have hlen : (Cond.isInt (.length (.arg 0))).before args s = true := hq _ (by decide +kernel)
  have hall : (Cond.all (.arg 0) (.isInt (.elem (.arg 0) (.index 0)))).before args s = true := hq _ (by decide +kernel)
  obtain ⟨b, xs, hb, hx⟩ := State.ints_of_pre rfl harr hlen hall
  have hsm : xs.length < 2 ^ 31 := hx.choose_spec.2.2.2
  have hev : (Term.length (.arg 0)).eval args s none [] s = some (.int xs.length.toInt32) := hx.length_eval hb
  have hv := Cond.le_ints hev (show (Term.int 320).eval args s none [] s = some (.int 320) from rfl)
  have hd : xs.length.toInt32 ≤ 320 := by
    simpa [Cond.before, Cond.holds, hv] using hle
  have hN : xs.length ≤ 320 := (Int32.ofNat_le_ofNat hsm (by decide)).mp (show Int32.ofNat xs.length ≤ Int32.ofNat 320 from hd)
  exact ⟨b, xs, Cond.one_arg hc (show args[0]? = some (.ref b) from hb), hx, hN, h⟩
theorem lw_comes (l : Launch) : Comes l x (Jvm.Cond.code x code maxLocals ret :: tables_1) room_1 (fun tb e args s => Calls_1 tb e args s ∧ rest_1 tb e args s ∧ Pre_1 tb e args s)
    (fun _ _ args s o t => lw_Q args s o t) := by
  intro p e ha hc hk s m args below hf hfit hheap happ hpre
  obtain ⟨b, xs, hP⟩ := lw_pre_spec hpre.2.2 hpre.2.1
  obtain ⟨k, o, h1, h2, h3, hQ⟩ := lw_walk l b xs p e ha hc hk s m args below hf ((Spec.applies_iff_loose hf).mp happ).1 hP trivial
  exact ⟨k, o, h1, h2, h3, hQ⟩
theorem lw_frame {s t : State} {o : Outcome} {args : Array Value} (h : Framed s o t [] 600000 7290000) :
    Framed s o t (fieldLocs frame_1_writes args s ++ arrayLocs frame_1_arrays args s ++ staticLocs frame_1_statics s) 600000 7290000 := h
theorem lw_limb (L : Cond) (hL : ∀ (args : Array Value) (s t : State), L.after args s (.returned (some (.int 1))) t = true) :
    ArmFor flags0 classFile x code maxLocals ret World_1 tables_1 room_1 Calls_1 rest_1 Pre_1
      (fun tb e a s o t => postC L tb e a s o t ∧ Framed s o t (fieldLocs frame_1_writes a s ++ arrayLocs frame_1_arrays a s ++ staticLocs frame_1_statics s) 600000 7290000) := by
  intro l _ _ _ p e ha hc hk s m args below hf hfit hheap happ hpre
  obtain ⟨k, o, h1, h2, h3, rfl, hF⟩ := lw_comes l p e ha hc hk s m args below hf hfit hheap happ hpre
  exact ⟨k, _, h1, h2, h3, hL args s _, lw_frame hF⟩
theorem i_vc : Claimed_1_1 ∧ Claimed_1_2 := ⟨lw_limb limb_1_1 (fun args s t => by simp [limb_1_1, Cond.after, Cond.holds, Cond.value]), lw_limb limb_1_2 (fun args s t => Cond.after_iff.mpr (by
  first | (rw [show limb_1_2 = Cond.eq .result (.int 1) from rfl, Cond.eq_ints (x := 1) (y := 1) rfl rfl]; simp; done) | (simp [limb_1_2, Cond.value, Term.eval]; done)))⟩
end
