section
/-! bits of an int; sets of columns 0..5 (the first rows began as rows of BITS.to-paste) -/
/-- bit i of an int -/
def dd_b (x : Int32) (i : Nat) : Bool := x.toBitVec.getLsbD i
theorem dd_ext {x y : Int32} (h : ∀ i, i < 32 → dd_b x i = dd_b y i) : x = y := Int32.toBitVec_inj.mp (BitVec.eq_of_getLsbD_eq (fun i hi => h i hi))
theorem dd_or (x y : Int32) (i : Nat) : dd_b (x ||| y) i = (dd_b x i || dd_b y i) := by unfold dd_b; rw [Int32.toBitVec_or, BitVec.getLsbD_or]
theorem dd_and (x y : Int32) (i : Nat) : dd_b (x &&& y) i = (dd_b x i && dd_b y i) := by unfold dd_b; rw [Int32.toBitVec_and, BitVec.getLsbD_and]
theorem dd_xor (x y : Int32) (i : Nat) : dd_b (x ^^^ y) i = (dd_b x i ^^ dd_b y i) := by unfold dd_b; rw [Int32.toBitVec_xor, BitVec.getLsbD_xor]
theorem dd_big {x : Int32} {i : Nat} (h : 32 ≤ i) : dd_b x i = false := BitVec.getLsbD_of_ge _ _ h
theorem dd_m1 : ∀ i, i < 32 → dd_b (-1) i = true := by decide +kernel
theorem dd_0 (i : Nat) : dd_b 0 i = false := BitVec.getLsbD_zero
theorem dd_1 : ∀ j, j < 32 → dd_b 1 j = decide (j = 0) := by decide +kernel
theorem dd_63 (i : Nat) : dd_b 63 i = decide (i < 6) := by
  rcases Nat.lt_or_ge i 32 with h | h
  · exact (by decide +kernel : ∀ i, i < 32 → dd_b 63 i = decide (i < 6)) i h
  · rw [dd_big h, decide_eq_false (by omega)]
theorem dd_sl : ∀ n, n < 32 → ((nI n &&& 31).toBitVec.smod 32).toNat = n := by decide +kernel
theorem dd_shl (n : Nat) (hn : n < 32) (x : Int32) {i : Nat} (hi : i < 32) : dd_b (x <<< (nI n &&& 31)) i = (decide (n ≤ i) && dd_b x (i - n)) := by
  unfold dd_b
  rw [Int32.toBitVec_shiftLeft]
  show (x.toBitVec <<< ((nI n &&& 31).toBitVec.smod 32).toNat).getLsbD i = _
  rw [dd_sl n hn, BitVec.getLsbD_shiftLeft]
  rcases Nat.lt_or_ge i n with h | h
  · simp [h, Nat.not_le.mpr h]
  · simp [hi, h, Nat.not_lt.mpr h]
theorem dd_sshr (n : Nat) (hn : n < 32) (x : Int32) {i : Nat} (hi : i < 32) : dd_b (x >>> (nI n &&& 31)) i = if n + i < 32 then dd_b x (n + i) else dd_b x 31 := by
  unfold dd_b
  rw [Int32.toBitVec_shiftRight]
  show (x.toBitVec.sshiftRight ((nI n &&& 31).toBitVec.smod 32).toNat).getLsbD i = _
  rw [dd_sl n hn, BitVec.getLsbD_sshiftRight, BitVec.msb_eq_getLsbD_last]
  simp [hi]
/-- and-not, as the bytecode has it -/
theorem dd_an (x y : Int32) (i : Nat) : dd_b (x &&& (y ^^^ (-1))) i = (dd_b x i && !dd_b y i) := by
  rcases Nat.lt_or_ge i 32 with h | h
  · rw [dd_and, dd_xor, dd_m1 i h, Bool.xor_true]
  · rw [dd_big h, dd_big h]; rfl
theorem dd_eq0 {z : Int32} : z = 0 ↔ ∀ i, dd_b z i = false := by
  constructor
  · intro e i
    rw [e, dd_0]
  · intro h
    apply dd_ext
    intro i _
    rw [h i, dd_0]
theorem dd_ex {z : Int32} (h : ¬ z = 0) : ∃ i, dd_b z i = true := by
  apply Classical.byContradiction
  intro g
  apply h
  rw [dd_eq0]
  intro i
  cases e : dd_b z i
  · rfl
  · exact absurd ⟨i, e⟩ g
theorem dd_nf {b : Bool} (h : ¬ b = true) : b = false := by cases b; rfl; exact absurd rfl h
theorem dd_nt {b : Bool} (h : b = false) : ¬ b = true := by rw [h]; decide
/-- s within t -/
def dd_sb (s t : Int32) : Prop := ∀ c, dd_b s c = true → dd_b t c = true
theorem dd_sub {s t : Int32} : (s &&& (t ^^^ (-1))) = 0 ↔ dd_sb s t := by
  rw [dd_eq0]
  constructor
  · intro h c hc
    have := h c
    rw [dd_an, hc] at this
    cases e : dd_b t c
    · rw [e] at this; exact absurd this (by decide)
    · rfl
  · intro h c
    rw [dd_an]
    cases e : dd_b s c
    · rfl
    · rw [h c e]; rfl
theorem dd_sb_eq {s t : Int32} (h : dd_sb s t) (h' : dd_sb t s) : s = t := by
  apply dd_ext
  intro i _
  cases e : dd_b s i
  · cases e' : dd_b t i
    · rfl
    · have := h' i e'
      rw [e] at this
      exact absurd this (by decide)
  · rw [h i e]
/-- a set of columns -/
def dd_set (s : Int32) : Prop := ∀ i, dd_b s i = true → i < 6
theorem dd_set_and {x : Int32} (y : Int32) (h : dd_set x) : dd_set (x &&& y) := by
  intro i hi
  rw [dd_and, Bool.and_eq_true] at hi
  exact h i hi.1
theorem dd_set_or {x y : Int32} (h : dd_set x) (h' : dd_set y) : dd_set (x ||| y) := by
  intro i hi
  rw [dd_or, Bool.or_eq_true] at hi
  rcases hi with z | z
  · exact h i z
  · exact h' i z
theorem dd_set_0 : dd_set 0 := by
  intro i hi
  rw [dd_0] at hi
  exact absurd hi (by decide)
theorem dd_set_63 : dd_set 63 := by
  intro i hi
  rw [dd_63] at hi
  exact of_decide_eq_true hi
theorem dd_sb_63 {s : Int32} (h : dd_set s) : dd_sb s 63 := by
  intro i hi
  rw [dd_63]
  exact decide_eq_true (h i hi)
theorem dd_set_of {s : Int32} (h : dd_set s) : ∃ j : Nat, j < 64 ∧ s = nI j := by
  have e : s &&& 63 = s := by
    apply dd_ext
    intro i _
    rw [dd_and, dd_63]
    cases e : dd_b s i
    · rfl
    · rw [decide_eq_true (h i e)]; rfl
  obtain ⟨j, hj, ej⟩ := pk_andE s (m := 63) 6 (by decide)
  exact ⟨j, hj, by rw [← e, ej]⟩
theorem dd_set_nI {j : Nat} (h : j < 64) : dd_set (nI j) := by
  have e : nI j = nI j &&& 63 := by
    rw [pk_andN (show j < 2 ^ 32 by omega) 6 (by decide), Nat.mod_eq_of_lt (show j < 2 ^ 6 by omega)]
  intro i hi
  rw [e, dd_and, Bool.and_eq_true, dd_63] at hi
  exact of_decide_eq_true hi.2
theorem dd_in {s : Int32} (h : dd_set s) : vp_in s 64 := by
  obtain ⟨j, hj, e⟩ := dd_set_of h
  rw [e]
  exact vp_in_nI hj (by omega)
theorem dd_ix {s : Int32} (h : dd_set s) : s.toNatClampNeg < 64 ∧ nI s.toNatClampNeg = s := by
  obtain ⟨j, hj, e⟩ := dd_set_of h
  rw [e, nI_clamp (by omega)]
  exact ⟨hj, rfl⟩
/-- one column -/
theorem dd_sg {i : Nat} (hi : i < 32) (j : Nat) : dd_b ((1 : Int32) <<< (nI i &&& 31)) j = decide (j = i) := by
  rcases Nat.lt_or_ge j 32 with h | h
  · rw [dd_shl i hi 1 h, dd_1 (j - i) (by omega)]
    by_cases e : j = i
    · rw [e]; simp
    · rw [decide_eq_false e]
      rcases Nat.lt_or_ge j i with g | g
      · rw [decide_eq_false (by omega)]; rfl
      · rw [decide_eq_false (show ¬ (j - i = 0) by omega), Bool.and_false]
  · rw [dd_big h, decide_eq_false (by omega)]
theorem dd_set_sg {i : Nat} (hi : i < 6) : dd_set ((1 : Int32) <<< (nI i &&& 31)) := by
  intro j hj
  rw [dd_sg (by omega)] at hj
  have := of_decide_eq_true hj
  omega
theorem dd_a1 (z : Int32) : z &&& 1 = if dd_b z 0 = true then 1 else 0 := by
  apply dd_ext
  intro j hj
  rw [dd_and, dd_1 j hj]
  by_cases g : j = 0
  · rw [g]
    cases e : dd_b z 0
    · rw [if_neg (by decide), dd_0]; rfl
    · rw [if_pos rfl]; decide
  · rw [decide_eq_false g, Bool.and_false]
    cases e : dd_b z 0
    · rw [if_neg (by decide), dd_0]
    · rw [if_pos rfl, dd_1 j hj, decide_eq_false g]
theorem dd_tst (s : Int32) {i : Nat} (hi : i < 32) : ((s >>> (nI i &&& 31)) &&& 1) = if dd_b s i = true then 1 else 0 := by
  rw [dd_a1, dd_sshr i hi s (by omega), Nat.add_zero, if_pos hi]
theorem dd_t1 {s : Int32} {i : Nat} (hi : i < 32) (h : dd_b s i = true) : ((s >>> (nI i &&& 31)) &&& 1) = 1 := by
  rw [dd_tst s hi, if_pos h]
theorem dd_t0 {s : Int32} {i : Nat} (hi : i < 32) (h : dd_b s i = false) : ¬ ((s >>> (nI i &&& 31)) &&& 1) = 1 := by
  rw [dd_tst s hi, if_neg (dd_nt h)]
  decide
/-- the law's own way to read one bit -/
theorem dd_top (w : Int32) {c : Nat} (hc : c < 32) : ((w >>> (nI c &&& 31)) <<< ((31 : Int32) &&& 31)) = 0 ↔ dd_b w c = false := by
  have e : ∀ j, j < 32 → dd_b ((w >>> (nI c &&& 31)) <<< ((31 : Int32) &&& 31)) j = (decide (31 ≤ j) && dd_b w c) := by
    intro j hj
    have := dd_shl 31 (by omega) (w >>> (nI c &&& 31)) hj
    refine this.trans ?_
    rcases Nat.lt_or_ge j 31 with h | h
    · rw [decide_eq_false (by omega)]; rfl
    · rw [show j - 31 = 0 by omega, dd_sshr c hc w (by omega), Nat.add_zero, if_pos hc]
  constructor
  · intro h
    have := e 31 (by omega)
    rw [h, dd_0] at this
    exact this.symm
  · intro h
    apply dd_ext
    intro j hj
    rw [e j hj, h, dd_0, Bool.and_false]
theorem dd_al : ∀ j, j < 64 → (nI j &&& (nI j - 1)) = 0 → j = 0 ∨ ∃ c, c < 6 ∧ nI j = (1 : Int32) <<< (nI c &&& 31) := by decide +kernel
theorem dd_al2 : ∀ c, c < 6 → (((1 : Int32) <<< (nI c &&& 31)) &&& (((1 : Int32) <<< (nI c &&& 31)) - 1)) = 0 := by decide +kernel
theorem dd_alone {s : Int32} (h : dd_set s) (h0 : ¬ s = 0) (ha : (s &&& (s - 1)) = 0) : ∃ c, c < 6 ∧ s = (1 : Int32) <<< (nI c &&& 31) := by
  obtain ⟨j, hj, e⟩ := dd_set_of h
  rw [e] at ha
  rcases dd_al j hj ha with z | z
  · exact absurd (by rw [e, z]; rfl) h0
  · obtain ⟨c, hc, ec⟩ := z
    exact ⟨c, hc, e.trans ec⟩
theorem dd_nb {r : Int32} (h : r = 0 ∨ r = 1) : narrow .boolean (.int r) = .int r := by
  rcases h with h | h
  · rw [h]; rfl
  · rw [h]; rfl
end
section
/-! the blocks of a set's basis, with no program in sight -/
theorem dd_pig : ∀ (m n : Nat) (ow : Nat → Nat), (∀ k, k < n → ∃ c, c < m ∧ ow c = k) → n ≤ m := by
  intro m
  induction m with
  | zero =>
    intro n ow h
    rcases Nat.eq_zero_or_pos n with z | z
    · omega
    · obtain ⟨c, hc, _⟩ := h 0 z
      omega
  | succ m ih =>
    intro n ow h
    by_cases hv : ow m < n
    · have := ih (n - 1) (fun c => if ow c = n - 1 then ow m else ow c) ?_
      · omega
      · intro k hk
        by_cases e : k = ow m
        · obtain ⟨c, hc, hcn⟩ := h (n - 1) (by omega)
          have : c ≠ m := by intro z; rw [z] at hcn; omega
          exact ⟨c, by omega, by rw [if_pos hcn]; exact e.symm⟩
        · obtain ⟨c, hc, hck⟩ := h k (by omega)
          have : c ≠ m := by intro z; rw [z] at hck; exact e hck.symm
          exact ⟨c, by omega, by rw [if_neg (by omega)]; exact hck⟩
    · have := ih n ow ?_
      · omega
      · intro k hk
        obtain ⟨c, hc, hck⟩ := h k hk
        have : c ≠ m := by intro z; rw [z] at hck; omega
        exact ⟨c, by omega, hck⟩
/-- no column in both -/
def dd_dj (x R : Int32) : Prop := ∀ c, dd_b x c = true → dd_b R c = true → False
/-- f 0 .. f (n-1) part R: none is empty, each column of R is in one; where x meets R there is but one -/
def dd_pt (x R : Int32) (n : Nat) (f : Nat → Int32) : Prop :=
  (∃ ow : Nat → Nat, (∀ c, dd_b R c = true → ow c < n) ∧ (∀ k, k < n → ∀ c, dd_b (f k) c = true ↔ (dd_b R c = true ∧ ow c = k)) ∧ (∀ k, k < n → ∃ c, dd_b R c = true ∧ ow c = k)) ∧ (¬ dd_dj x R → n ≤ 1)
theorem dd_pt_le {x R : Int32} {n : Nat} {f : Nat → Int32} (hR : dd_set R) (h : dd_pt x R n f) : n ≤ 6 := by
  obtain ⟨⟨ow, _, _, h3⟩, _⟩ := h
  refine dd_pig 6 n ow (fun k hk => ?_)
  obtain ⟨c, hc, e⟩ := h3 k hk
  exact ⟨c, hR c hc, e⟩
theorem dd_pt_in {x R : Int32} {n : Nat} {f : Nat → Int32} (h : dd_pt x R n f) {k : Nat} (hk : k < n) : dd_sb (f k) R := by
  obtain ⟨⟨ow, _, h2, _⟩, _⟩ := h
  intro c hc
  exact ((h2 k hk c).mp hc).1
theorem dd_pt_ne {x R : Int32} {n : Nat} {f : Nat → Int32} (h : dd_pt x R n f) {k : Nat} (hk : k < n) : ¬ f k = 0 := by
  obtain ⟨⟨ow, _, h2, h3⟩, _⟩ := h
  obtain ⟨c, hc, e⟩ := h3 k hk
  intro z
  have := (h2 k hk c).mpr ⟨hc, e⟩
  rw [z, dd_0] at this
  exact absurd this (by decide)
theorem dd_pt_has {x R : Int32} {n : Nat} {f : Nat → Int32} (h : dd_pt x R n f) {c : Nat} (hc : dd_b R c = true) : ∃ k, k < n ∧ dd_b (f k) c = true := by
  obtain ⟨⟨ow, h1, h2, _⟩, _⟩ := h
  exact ⟨ow c, h1 c hc, (h2 _ (h1 c hc) c).mpr ⟨hc, rfl⟩⟩
theorem dd_pt_one {x R : Int32} {f : Nat → Int32} (hne : ¬ R = 0) (h : f 0 = R) : dd_pt x R 1 f := by
  refine ⟨⟨fun _ => 0, fun _ _ => Nat.zero_lt_one, fun k hk c => ?_, fun k hk => ?_⟩, fun _ => by omega⟩
  · have : k = 0 := by omega
    rw [this, h]
    exact ⟨fun z => ⟨z, rfl⟩, fun z => z.1⟩
  · obtain ⟨c, hc⟩ := dd_ex hne
    exact ⟨c, hc, (show 0 = k by omega)⟩
theorem dd_pt_none {x R : Int32} {f : Nat → Int32} (h : R = 0) : dd_pt x R 0 f := by
  refine ⟨⟨fun _ => 0, fun c hc => ?_, fun k hk => absurd hk (by omega), fun k hk => absurd hk (by omega)⟩, fun _ => by omega⟩
  rw [h, dd_0] at hc
  exact absurd hc (by decide)
/-- t is a part of w, or has nothing of w -/
def dd_rb (w t : Int32) : Prop := (∀ c, dd_b t c = true → dd_b w c = true) ∨ (∀ c, dd_b t c = true → dd_b w c = false)
theorem dd_rb_sub {w t t' : Int32} (h : dd_rb w t) (hs : dd_sb t' t) : dd_rb w t' := by
  rcases h with h | h
  · exact Or.inl (fun c hc => h c (hs c hc))
  · exact Or.inr (fun c hc => h c (hs c hc))
/-- w parts no block, where x doesn't meet R -/
def dd_rf (x R w : Int32) (n : Nat) (f : Nat → Int32) : Prop := dd_dj x R → ∀ k, k < n → dd_rb w (f k)
/-- block k parted by w -/
def dd_g (f : Nat → Int32) (n k : Nat) (w : Int32) : Nat → Int32 := upd (upd f n (f k &&& ((f k &&& w) ^^^ (-1)))) k (f k &&& w)
theorem dd_g_k {f : Nat → Int32} {n k : Nat} {w : Int32} : dd_g f n k w k = f k &&& w := pk_us
theorem dd_g_n {f : Nat → Int32} {n k : Nat} {w : Int32} (h : k < n) : dd_g f n k w n = f k &&& ((f k &&& w) ^^^ (-1)) := by
  unfold dd_g
  rw [pk_un (by omega), pk_us]
theorem dd_g_o {f : Nat → Int32} {n k j : Nat} {w : Int32} (h : j ≠ k) (h' : j ≠ n) : dd_g f n k w j = f j := by
  unfold dd_g
  rw [pk_un h, pk_un h']
theorem dd_bk {t w : Int32} {c : Nat} : dd_b (t &&& w) c = true ↔ (dd_b t c = true ∧ dd_b w c = true) := by
  rw [dd_and, Bool.and_eq_true]
theorem dd_bn {t w : Int32} {c : Nat} : dd_b (t &&& ((t &&& w) ^^^ (-1))) c = true ↔ (dd_b t c = true ∧ dd_b w c = false) := by
  rw [dd_an, dd_and]
  cases dd_b t c <;> cases dd_b w c <;> decide
theorem dd_rb_i {w t : Int32} (h : t &&& w = 0 ∨ t &&& w = t) : dd_rb w t := by
  rcases h with h | h
  · refine Or.inr (fun c hc => ?_)
    have := dd_eq0.mp h c
    rw [dd_and, hc, Bool.true_and] at this
    exact this
  · refine Or.inl (fun c hc => ?_)
    rw [← h] at hc
    exact (dd_bk.mp hc).2
theorem dd_rb_o {w t : Int32} (h : dd_rb w t) : t &&& w = 0 ∨ t &&& w = t := by
  rcases h with h | h
  · refine Or.inr (dd_sb_eq (fun c hc => (dd_bk.mp hc).1) (fun c hc => dd_bk.mpr ⟨hc, h c hc⟩))
  · refine Or.inl (dd_eq0.mpr (fun c => dd_nf (fun hc => ?_)))
    have := dd_bk.mp hc
    rw [h c this.1] at this
    exact absurd this.2 (by decide)
theorem dd_split {x R w : Int32} {n k : Nat} {f : Nat → Int32} (hp : dd_pt x R n f) (hk : k < n) (hd : dd_dj x R) (h0 : ¬ (f k &&& w) = 0) (h1 : ¬ (f k &&& w) = f k) :
    dd_pt x R (n + 1) (dd_g f n k w) := by
  obtain ⟨⟨ow, o1, o2, o3⟩, _⟩ := hp
  refine ⟨⟨fun c => if ow c = k ∧ dd_b w c = false then n else ow c, fun c hc => ?_, fun j hj c => ?_, fun j hj => ?_⟩, fun z => absurd hd z⟩
  · have := o1 c hc
    dsimp only
    split <;> omega
  · dsimp only
    by_cases ek : j = k
    · rw [ek, dd_g_k, dd_bk, o2 k hk c]
      constructor
      · intro ⟨⟨ha, hb⟩, hc⟩
        refine ⟨ha, ?_⟩
        rw [if_neg (by rw [hc]; intro z; exact absurd z.2 (by decide))]
        exact hb
      · intro ⟨ha, hb⟩
        split at hb
        · omega
        · rename_i hs
          refine ⟨⟨ha, hb⟩, ?_⟩
          cases e : dd_b w c
          · exact absurd ⟨hb, e⟩ hs
          · rfl
    · by_cases en : j = n
      · rw [en, dd_g_n hk, dd_bn, o2 k hk c]
        constructor
        · intro ⟨⟨ha, hb⟩, hc⟩
          exact ⟨ha, by rw [if_pos ⟨hb, hc⟩]⟩
        · intro ⟨ha, hb⟩
          split at hb
          · rename_i hs
            exact ⟨⟨ha, hs.1⟩, hs.2⟩
          · have := o1 c ha
            omega
      · rw [dd_g_o ek en, o2 j (by omega) c]
        constructor
        · intro ⟨ha, hb⟩
          refine ⟨ha, ?_⟩
          rw [if_neg (by intro z; omega)]
          exact hb
        · intro ⟨ha, hb⟩
          split at hb
          · omega
          · exact ⟨ha, hb⟩
  · dsimp only
    by_cases ek : j = k
    · obtain ⟨c, hc⟩ := dd_ex h0
      have hc' := dd_bk.mp hc
      have := (o2 k hk c).mp hc'.1
      refine ⟨c, this.1, ?_⟩
      rw [if_neg (by rw [hc'.2]; intro z; exact absurd z.2 (by decide)), ek]
      exact this.2
    · by_cases en : j = n
      · have : ∃ c, dd_b (f k) c = true ∧ dd_b w c = false := by
          apply Classical.byContradiction
          intro g
          apply h1
          refine dd_sb_eq (fun c hc => (dd_bk.mp hc).1) (fun c hc => dd_bk.mpr ⟨hc, ?_⟩)
          cases e : dd_b w c
          · exact absurd ⟨c, hc, e⟩ g
          · rfl
        obtain ⟨c, hc, hw⟩ := this
        have := (o2 k hk c).mp hc
        exact ⟨c, this.1, by rw [if_pos ⟨this.2, hw⟩, en]⟩
      · obtain ⟨c, hc, e⟩ := o3 j (by omega)
        exact ⟨c, hc, by rw [if_neg (by intro z; omega)]; exact e⟩
theorem dd_split_sub {f : Nat → Int32} {n k : Nat} {w : Int32} (hk : k < n) {j : Nat} (hj : j < n + 1) : ∃ i, i < n ∧ dd_sb (dd_g f n k w j) (f i) := by
  by_cases ek : j = k
  · refine ⟨k, hk, ?_⟩
    rw [ek, dd_g_k]
    exact fun c hc => (dd_bk.mp hc).1
  · by_cases en : j = n
    · refine ⟨k, hk, ?_⟩
      rw [en, dd_g_n hk]
      exact fun c hc => (dd_bn.mp hc).1
    · refine ⟨j, by omega, ?_⟩
      rw [dd_g_o ek en]
      exact fun c hc => hc
/-- what one pass of splitBy has done when block k is next -/
def dd_SB (x R w : Int32) (n0 : Nat) (f0 : Nat → Int32) (k n : Nat) (f : Nat → Int32) : Prop :=
  dd_pt x R n f ∧ n0 ≤ n ∧ (∀ w', dd_rf x R w' n0 f0 → dd_rf x R w' n f) ∧ (dd_dj x R → ∀ j, j < n → (j < k ∨ n0 ≤ j) → dd_rb w (f j))
theorem dd_SB_0 {x R w : Int32} {n : Nat} {f : Nat → Int32} (h : dd_pt x R n f) : dd_SB x R w n f 0 n f :=
  ⟨h, Nat.le_refl n, fun _ z => z, fun _ j hj z => absurd z (by omega)⟩
theorem dd_SB_end {x R w : Int32} {n0 n : Nat} {f0 f : Nat → Int32} (h : dd_SB x R w n0 f0 n0 n f) : dd_rf x R w n f :=
  fun hd j hj => h.2.2.2 hd j hj (by omega)
theorem dd_SB_meet {x R w : Int32} {n0 n k : Nat} {f0 f : Nat → Int32} (h : dd_SB x R w n0 f0 k n f) (hk : k < n0) (hx : ¬ (f k &&& x) = 0) : dd_SB x R w n0 f0 (k + 1) n f := by
  refine ⟨h.1, h.2.1, h.2.2.1, fun hd => ?_⟩
  obtain ⟨c, hc⟩ := dd_ex hx
  have hc' := dd_bk.mp hc
  exact absurd (dd_pt_in h.1 (show k < n by have := h.2.1; omega) c hc'.1) (fun z => hd c hc'.2 z)
theorem dd_SB_stay {x R w : Int32} {n0 n k : Nat} {f0 f : Nat → Int32} (h : dd_SB x R w n0 f0 k n f) (hs : (f k &&& w) = 0 ∨ (f k &&& w) = f k) : dd_SB x R w n0 f0 (k + 1) n f := by
  refine ⟨h.1, h.2.1, h.2.2.1, fun hd j hj hjk => ?_⟩
  by_cases e : j = k
  · rw [e]
    exact dd_rb_i hs
  · exact h.2.2.2 hd j hj (by omega)
theorem dd_SB_dj {x R w : Int32} {n0 n k : Nat} {f0 f : Nat → Int32} (h : dd_SB x R w n0 f0 k n f) (hk : k < n0) (hx : (f k &&& x) = 0) : dd_dj x R := by
  apply Classical.byContradiction
  intro hd
  have hn := h.1.2 hd
  have := h.2.1
  have hk0 : k = 0 := by omega
  apply hd
  intro c cx cR
  obtain ⟨j, hj, hb⟩ := dd_pt_has h.1 cR
  have hj0 : j = k := by omega
  rw [hj0] at hb
  have := dd_eq0.mp hx c
  rw [dd_and, hb, cx] at this
  exact absurd this (by decide)
theorem dd_SB_split {x R w : Int32} {n0 n k : Nat} {f0 f : Nat → Int32} (h : dd_SB x R w n0 f0 k n f) (hk : k < n0) (hx : (f k &&& x) = 0) (h0 : ¬ (f k &&& w) = 0) (h1 : ¬ (f k &&& w) = f k) :
    dd_SB x R w n0 f0 (k + 1) (n + 1) (dd_g f n k w) := by
  have hd := dd_SB_dj h hk hx
  have hkn : k < n := by have := h.2.1; omega
  refine ⟨dd_split h.1 hkn hd h0 h1, by have := h.2.1; omega, fun w' hw' => ?_, fun _ j hj hjk => ?_⟩
  · have g := h.2.2.1 w' hw'
    intro hd j hj
    obtain ⟨i, hi, hs⟩ := dd_split_sub (f := f) (w := w) hkn hj
    exact dd_rb_sub (g hd i hi) hs
  · by_cases ek : j = k
    · rw [ek, dd_g_k]
      exact Or.inl (fun c hc => (dd_bk.mp hc).2)
    · by_cases en : j = n
      · rw [en, dd_g_n hkn]
        exact Or.inr (fun c hc => (dd_bn.mp hc).2)
      · rw [dd_g_o ek en]
        exact h.2.2.2 hd j (by omega) (by omega)
/-- nothing that counts parts a block any more -/
def dd_fin (x y b R : Int32) (n : Nat) (f : Nat → Int32) : Prop :=
  (b = 0 → ∀ c, c < 6 → dd_b y c = true → dd_rf x R ((1 : Int32) <<< (nI c &&& 31)) n f) ∧ (¬ b = 0 → dd_rf x R y n f)
/-- what a set gives -/
def dd_cl (cn x y b s : Int32) : Int32 := if cn = 1 ∧ b = 0 ∧ (x &&& (s ^^^ (-1))) = 0 then s ||| y else s
/-- a column on the right and not on the left of a counting single dependency -/
def dd_D (cn x y b : Int32) (c : Nat) : Prop := cn = 1 ∧ b = 0 ∧ dd_b y c = true ∧ dd_b x c = false
theorem dd_cl_set {cn x y b s : Int32} (hs : dd_set s) (hy : dd_set y) : dd_set (dd_cl cn x y b s) := by
  unfold dd_cl
  split
  · exact dd_set_or hs hy
  · exact hs
theorem dd_cl_ge {cn x y b s : Int32} : dd_sb s (dd_cl cn x y b s) := by
  intro c hc
  unfold dd_cl
  split
  · rw [dd_or, hc]; rfl
  · exact hc
/-- the columns that are not in s -/
theorem dd_R {s : Int32} {c : Nat} : dd_b (63 &&& (s ^^^ (-1))) c = true ↔ (c < 6 ∧ dd_b s c = false) := by
  rw [dd_an, dd_63]
  cases dd_b s c
  · simp
  · simp
theorem dd_R_set (s : Int32) : dd_set (63 &&& (s ^^^ (-1))) := dd_set_and _ dd_set_63
theorem dd_R_dj {x s : Int32} (hx : dd_set x) : dd_dj x (63 &&& (s ^^^ (-1))) ↔ dd_sb x s := by
  constructor
  · intro h c hc
    cases e : dd_b s c
    · exact absurd (dd_R.mpr ⟨hx c hc, e⟩) (fun z => h c hc z)
    · rfl
  · intro h c hc hR
    have := (dd_R.mp hR).2
    rw [h c hc] at this
    exact absurd this (by decide)
/-- upper bound: a block that follows is in the closure -/
theorem dd_up {cn x y b s : Int32} {n k c : Nat} {f : Nat → Int32} (hx : dd_set x) (hp : dd_pt x (63 &&& (s ^^^ (-1))) n f) (hk : k < n) (hf : f k = (1 : Int32) <<< (nI c &&& 31)) (hc : c < 6) (hD : dd_D cn x y b c) : dd_sb (f k) (dd_cl cn x y b s) := by
  obtain ⟨d1, d2, d3, d4⟩ := hD
  have hcf : dd_b (f k) c = true := by rw [hf, dd_sg (by omega)]; exact decide_eq_true rfl
  have hdj : dd_dj x (63 &&& (s ^^^ (-1))) := by
    intro e ex eR
    obtain ⟨j, hj, hb⟩ := dd_pt_has hp eR
    have hd : ¬ dd_dj x (63 &&& (s ^^^ (-1))) := fun z => z e ex eR
    have h1 := hp.2 hd
    have : j = k := by omega
    rw [this, hf, dd_sg (by omega)] at hb
    have : e = c := of_decide_eq_true hb
    rw [this, d4] at ex
    exact absurd ex (by decide)
  intro e he
  rw [hf, dd_sg (by omega)] at he
  have : e = c := of_decide_eq_true he
  rw [this]
  unfold dd_cl
  rw [if_pos ⟨d1, d2, dd_sub.mpr ((dd_R_dj hx).mp hdj)⟩, dd_or, d3, Bool.or_true]
/-- lower bound: what follows is in a block that follows -/
theorem dd_lo {cn x y b s : Int32} {n : Nat} {f : Nat → Int32} (hx : dd_set x) (hy : dd_set y) (hp : dd_pt x (63 &&& (s ^^^ (-1))) n f) (hf : cn = 1 → dd_fin x y b (63 &&& (s ^^^ (-1))) n f) {c : Nat} (h : dd_b (dd_cl cn x y b s) c = true) (hs : dd_b s c = false) :
    ∃ k, k < n ∧ c < 6 ∧ f k = (1 : Int32) <<< (nI c &&& 31) ∧ dd_D cn x y b c := by
  unfold dd_cl at h
  split at h
  · rename_i hc
    obtain ⟨c1, c2, c3⟩ := hc
    rw [dd_or, hs, Bool.false_or] at h
    have hsub := dd_sub.mp c3
    have hc6 := hy c h
    have hcR := dd_R.mpr ⟨hc6, hs⟩
    obtain ⟨k, hk, hb⟩ := dd_pt_has hp hcR
    have hr := (hf c1).1 c2 c hc6 h ((dd_R_dj hx).mpr hsub) k hk
    refine ⟨k, hk, hc6, ?_, c1, c2, h, ?_⟩
    · have hsg : dd_b ((1 : Int32) <<< (nI c &&& 31)) c = true := by rw [dd_sg (by omega)]; exact decide_eq_true rfl
      refine dd_sb_eq ?_ ?_
      · rcases hr with z | z
        · exact z
        · have := z c hb
          rw [hsg] at this
          exact absurd this (by decide)
      · intro e he
        rw [dd_sg (by omega)] at he
        rw [of_decide_eq_true he]
        exact hb
    · cases e : dd_b x c
      · rfl
      · have := hsub c e
        rw [hs] at this
        exact absurd this (by decide)
  · rw [hs] at h
    exact absurd h (by decide)
/-- the least set that gives all -/
def dd_M (cn x y b : Int32) : Int32 := if cn = 1 ∧ b = 0 then x ||| (63 &&& (y ^^^ (-1))) else 63
theorem dd_M_set {cn x y b : Int32} (hx : dd_set x) : dd_set (dd_M cn x y b) := by
  unfold dd_M
  split
  · exact dd_set_or hx (dd_R_set y)
  · exact dd_set_63
theorem dd_M_iff {cn x y b s : Int32} (hx : dd_set x) (hy : dd_set y) (hs : dd_set s) : dd_cl cn x y b s = 63 ↔ dd_sb (dd_M cn x y b) s := by
  unfold dd_cl dd_M
  by_cases hc : cn = 1 ∧ b = 0
  · rw [if_pos hc]
    have key : dd_sb (x ||| (63 &&& (y ^^^ (-1)))) s ↔ (dd_sb x s ∧ (s ||| y) = 63) := by
      constructor
      · intro h
        refine ⟨fun c hc => h c (by rw [dd_or, hc]; rfl), dd_sb_eq (dd_sb_63 (dd_set_or hs hy)) (fun c hc => ?_)⟩
        rw [dd_63] at hc
        have hc6 := of_decide_eq_true hc
        rw [dd_or]
        cases e : dd_b y c
        · rw [h c (by rw [dd_or, dd_R.mpr ⟨hc6, e⟩, Bool.or_true])]; rfl
        · rw [Bool.or_true]
      · intro ⟨h1, h2⟩ c hc
        rw [dd_or, Bool.or_eq_true] at hc
        rcases hc with z | z
        · exact h1 c z
        · have hz := dd_R.mp z
          have : dd_b (s ||| y) c = true := by rw [h2, dd_63]; exact decide_eq_true hz.1
          rw [dd_or, hz.2, Bool.or_false] at this
          exact this
    rw [key]
    by_cases hsub : (x &&& (s ^^^ (-1))) = 0
    · rw [if_pos ⟨hc.1, hc.2, hsub⟩]
      exact ⟨fun z => ⟨dd_sub.mp hsub, z⟩, fun z => z.2⟩
    · rw [if_neg (fun z => hsub z.2.2)]
      constructor
      · intro z
        rw [z] at hsub
        exact absurd (dd_sub.mpr (dd_sb_63 hx)) hsub
      · intro z
        exact absurd (dd_sub.mpr z.1) hsub
  · rw [if_neg hc, if_neg (fun z => hc ⟨z.1, z.2.1⟩)]
    constructor
    · intro z
      rw [z]
      exact fun c h => h
    · intro z
      exact dd_sb_eq (dd_sb_63 hs) z
end
section
/-! the walk: splitBlock, splitBy, splitByGiven, findBasis -/
section
variable {cn ct bl st sm kc pc ro : Int32} {a1 a2 a3 a4 a5 a6 a7 a8 a9 a10 a11 a12 a13 a14 : Nat → Int32}
theorem dd_splitBlock {post : Int32 → St2 → Prop} {n k : Nat} {f : Nat → Int32} {w : Int32} (hk : k < 6) (hn6 : n ≤ 6) (hn : ¬ (f k &&& w) = 0 → ¬ (f k &&& w) = f k → n < 6)
    (H0 : ((f k &&& w) = 0 ∨ (f k &&& w) = f k) → post 0 (cn, ct, nI n, st, sm, kc, pc, ro, a1, a2, a3, f, a5, a6, a7, a8, a9, a10, a11, a12, a13, a14))
    (H1 : ¬ (f k &&& w) = 0 → ¬ (f k &&& w) = f k → post 1 (cn, ct, nI (n + 1), st, sm, kc, pc, ro, a1, a2, a3, dd_g f n k w, a5, a6, a7, a8, a9, a10, a11, a12, a13, a14)) :
    wpX_splitBlock post (cn, ct, nI n, st, sm, kc, pc, ro, a1, a2, a3, f, a5, a6, a7, a8, a9, a10, a11, a12, a13, a14) (nI k) w := by
  unfold wpX_splitBlock
  dsimp only
  rw [nI_clamp (show k < 2 ^ 31 by omega), nI_clamp (show n < 2 ^ 31 by omega)]
  exact ⟨pk_in k 6 hk, nm_e (br_c (fun h => H0 (Or.inl h)) (fun h0 => ⟨pk_in k 6 hk, br_c (fun h => H0 (Or.inr h)) (fun h1 => ⟨pk_in k 6 hk, pk_in n 6 (hn h0 h1), nm_e ⟨pk_in k 6 hk, nm_e (nm_r (nI_1 n) (H1 h0 h1))⟩⟩)⟩))⟩
theorem dd_splitBy {post : Int32 → St2 → Prop} {x R w : Int32} {n : Nat} {f : Nat → Int32} (hR : dd_set R) (hp : dd_pt x R n f)
    (H : ∀ (r : Int32) (m : Nat) (g : Nat → Int32), (r = 0 ∨ r = 1) → dd_pt x R m g → (∀ w', dd_rf x R w' n f → dd_rf x R w' m g) → dd_rf x R w m g → post r (cn, ct, nI m, st, sm, kc, pc, ro, a1, a2, a3, g, a5, a6, a7, a8, a9, a10, a11, a12, a13, a14)) :
    wpX_splitBy post (cn, ct, nI n, st, sm, kc, pc, ro, a1, a2, a3, f, a5, a6, a7, a8, a9, a10, a11, a12, a13, a14) x w := by
  have h6 := dd_pt_le hR hp
  refine Exists.elim (pk_loop (σ := Int32 × Nat × (Nat → Int32)) (fun q i s => wX_splitBy_11 post x w (nI n) q s.1 (nI i) cn ct (nI s.2.1) st sm kc pc ro a1 a2 a3 s.2.2 a5 a6 a7 a8 a9 a10 a11 a12 a13 a14) (fun i s => (s.1 = 0 ∨ s.1 = 1) ∧ dd_SB x R w n f i s.2.1 s.2.2) n 0 (0, n, f) (by omega) ⟨Or.inl rfl, dd_SB_0 hp⟩ ?_ ?_) (fun q hq => ⟨q, hq⟩)
  · intro q s hs
    exact pk_le n n (fun _ => ⟨dd_nb hs.1, H s.1 s.2.1 s.2.2 hs.1 hs.2.1 hs.2.2.2.1 (dd_SB_end hs.2)⟩) (fun z => absurd z (by omega))
  · intro q i s hi hs hw
    have hs6 := dd_pt_le hR hs.2.1
    have X : ∀ m g, dd_SB x R w n f (i + 1) m g → ∀ r : Int32, (r = 0 ∨ r = 1) → ∀ z : Int32, z = nI i + 1 → wX_splitBy_11 post x w (nI n) q r z cn ct (nI m) st sm kc pc ro a1 a2 a3 g a5 a6 a7 a8 a9 a10 a11 a12 a13 a14 :=
      fun m g K r hr => nm_r (nI_1 i) (hw (r, m, g) ⟨hr, K⟩)
    refine pk_le n i (fun z => absurd z (by omega)) (fun _ => ⟨pk_in i 6 (by omega), ?_⟩)
    rw [nI_clamp (show i < 2 ^ 31 by omega)]
    refine br_c (fun hx => ?_) (fun hx => X _ _ (dd_SB_meet hs.2 hi hx) _ hs.1)
    refine dd_splitBlock (by omega) (by omega) (fun h0 h1 => ?_) (fun h => ?_) (fun h0 h1 => ?_)
    · have := dd_pt_le hR (dd_SB_split hs.2 hi hx h0 h1).1
      omega
    · have K := X _ _ (dd_SB_stay hs.2 h)
      exact ⟨fun _ => ⟨fun _ => K 0 (Or.inl rfl), fun _ => K 1 (Or.inr rfl)⟩, fun _ => K 1 (Or.inr rfl)⟩
    · have K := X _ _ (dd_SB_split hs.2 hi hx h0 h1)
      exact ⟨fun _ => ⟨fun _ => K 0 (Or.inl rfl), fun _ => K 1 (Or.inr rfl)⟩, fun _ => K 1 (Or.inr rfl)⟩
theorem dd_splitByGiven {post : Int32 → St2 → Prop} {R : Int32} {n : Nat} {f : Nat → Int32} (hR : dd_set R) (hp : dd_pt (a1 0) R n f)
    (H : ∀ (r : Int32) (m : Nat) (g : Nat → Int32), (r = 0 ∨ r = 1) → dd_pt (a1 0) R m g → dd_fin (a1 0) (a2 0) (a3 0) R m g → post r (cn, ct, nI m, st, sm, kc, pc, ro, a1, a2, a3, g, a5, a6, a7, a8, a9, a10, a11, a12, a13, a14)) :
    wpX_splitByGiven post (cn, ct, nI n, st, sm, kc, pc, ro, a1, a2, a3, f, a5, a6, a7, a8, a9, a10, a11, a12, a13, a14) (nI 0) := by
  unfold wpX_splitByGiven
  dsimp only
  rw [nI_clamp (show 0 < 2 ^ 31 by omega)]
  refine ⟨pk_in 0 10 (by omega), br_c (fun hb => ?_) (fun hb => ⟨pk_in 0 10 (by omega), pk_in 0 10 (by omega), ?_⟩)⟩
  · refine Exists.elim (pk_loop (σ := Int32 × Nat × (Nat → Int32)) (fun q i s => wX_splitByGiven_30 post (nI 0) q s.1 (nI i) cn ct (nI s.2.1) st sm kc pc ro a1 a2 a3 s.2.2 a5 a6 a7 a8 a9 a10 a11 a12 a13 a14) (fun i s => (s.1 = 0 ∨ s.1 = 1) ∧ dd_pt (a1 0) R s.2.1 s.2.2 ∧ ∀ c, c < i → dd_b (a2 0) c = true → dd_rf (a1 0) R ((1 : Int32) <<< (nI c &&& 31)) s.2.1 s.2.2) 6 0 (0, n, f) (by omega) ⟨Or.inl rfl, hp, fun c hc => absurd hc (by omega)⟩ ?_ ?_) (fun q hq => ⟨q, hq⟩)
    · intro q s hs
      exact pk_le 6 6 (fun _ => ⟨dd_nb hs.1, H s.1 s.2.1 s.2.2 hs.1 hs.2.1 ⟨fun _ => hs.2.2, fun z => absurd hb z⟩⟩) (fun z => absurd z (by omega))
    · intro q i s hi hs hw
      have X : ∀ m g, dd_pt (a1 0) R m g → (∀ c, c < i + 1 → dd_b (a2 0) c = true → dd_rf (a1 0) R ((1 : Int32) <<< (nI c &&& 31)) m g) → ∀ r : Int32, (r = 0 ∨ r = 1) → ∀ z : Int32, z = nI i + 1 → wX_splitByGiven_30 post (nI 0) q r z cn ct (nI m) st sm kc pc ro a1 a2 a3 g a5 a6 a7 a8 a9 a10 a11 a12 a13 a14 :=
        fun m g K1 K2 r hr => nm_r (nI_1 i) (hw (r, m, g) ⟨hr, K1, K2⟩)
      refine pk_le 6 i (fun z => absurd z (by omega)) (fun _ => ⟨pk_in 0 10 (by omega), ?_⟩)
      rw [nI_clamp (show 0 < 2 ^ 31 by omega)]
      cases hy : dd_b (a2 0) i
      · refine br_f (dd_t0 (by omega) hy) (X _ _ hs.2.1 (fun c hc hyc => ?_) _ hs.1)
        by_cases e : c = i
        · rw [e, hy] at hyc
          exact absurd hyc (by decide)
        · exact hs.2.2 c (by omega) hyc
      · refine br_t (dd_t1 (by omega) hy) ⟨pk_in 0 10 (by omega), dd_splitBy hR hs.2.1 (fun r m g hr g1 g2 g3 => ?_)⟩
        have K := X m g g1 (fun c hc hyc => by
          by_cases e : c = i
          · rw [e]; exact g3
          · exact g2 _ (hs.2.2 c (by omega) hyc))
        exact ⟨fun _ => ⟨fun _ => K 0 (Or.inl rfl), fun _ => K 1 (Or.inr rfl)⟩, fun _ => K 1 (Or.inr rfl)⟩
  · exact dd_splitBy hR hp (fun r m g hr g1 g2 g3 => ⟨dd_nb hr, H r m g hr g1 ⟨fun z => absurd z hb, fun _ => g3⟩⟩)
/-- one round over the given dependencies: none, or one that counts -/
theorem dd_fb47 {post : St2 → Prop} {J : _} {R x3 : Int32} {n : Nat} {f : Nat → Int32} (hc : cn = 0 ∨ cn = 1) (hR : dd_set R) (hp : dd_pt (a1 0) R n f)
    (H : ∀ (r : Int32) (m : Nat) (g : Nat → Int32), (r = 0 ∨ r = 1) → dd_pt (a1 0) R m g → (cn = 1 → dd_fin (a1 0) (a2 0) (a3 0) R m g) → ∀ z : Int32, z = x3 + 1 → J r z cn cn (nI m) st sm kc pc ro a1 a2 a3 g a5 a6 a7 a8 a9 a10 a11 a12 a13 a14) :
    ∃ q, wX_findBasis_47 post J x3 q 0 0 cn cn (nI n) st sm kc pc ro a1 a2 a3 f a5 a6 a7 a8 a9 a10 a11 a12 a13 a14 := by
  rcases hc with e | e
  · subst e
    exact ⟨1, br_t (by decide) (H 0 n f (Or.inl rfl) hp (fun z => absurd z (by decide)))⟩
  · subst e
    refine ⟨2, br_f (by decide) (br_t (by decide) (dd_splitByGiven (n := n) (f := f) hR hp (fun r m g hr g1 g2 => ?_)))⟩
    have K : ∀ r : Int32, (r = 0 ∨ r = 1) → ∀ z : Int32, z = 0 + 1 → wX_findBasis_47 post J x3 1 r z 1 1 (nI m) st sm kc pc ro a1 a2 a3 g a5 a6 a7 a8 a9 a10 a11 a12 a13 a14 :=
      fun r hr => nm_r (e' := 1) (by decide) (br_t (by decide) (H r m g hr g1 (fun _ => g2)))
    exact ⟨fun _ => ⟨fun _ => K 0 (Or.inl rfl), fun _ => K 1 (Or.inr rfl)⟩, fun _ => K 1 (Or.inr rfl)⟩
theorem dd_fb32 {post : St2 → Prop} {R : Int32} {n : Nat} {f : Nat → Int32} (hc : cn = 0 ∨ cn = 1) (hR : dd_set R) (hp : dd_pt (a1 0) R n f)
    (H : ∀ (m : Nat) (g : Nat → Int32), dd_pt (a1 0) R m g → (cn = 1 → dd_fin (a1 0) (a2 0) (a3 0) R m g) → post (cn, cn, nI m, st, sm, kc, pc, ro, a1, a2, a3, g, a5, a6, a7, a8, a9, a10, a11, a12, a13, a14)) :
    ∃ q, wX_findBasis_32 post q 1 0 cn cn (nI n) st sm kc pc ro a1 a2 a3 f a5 a6 a7 a8 a9 a10 a11 a12 a13 a14 := by
  refine Exists.elim (pk_loop (σ := Int32 × Nat × (Nat → Int32)) (fun q i s => wX_findBasis_32 post q s.1 (nI i) cn cn (nI s.2.1) st sm kc pc ro a1 a2 a3 s.2.2 a5 a6 a7 a8 a9 a10 a11 a12 a13 a14) (fun i s => dd_pt (a1 0) R s.2.1 s.2.2 ∧ ((i = 0 ∧ s.1 = 1) ∨ (cn = 1 → dd_fin (a1 0) (a2 0) (a3 0) R s.2.1 s.2.2))) 6 0 (1, n, f) (by omega) ⟨hp, Or.inl ⟨rfl, rfl⟩⟩ ?_ ?_) (fun q hq => ⟨q, hq⟩)
  · intro q s hs
    refine pk_le 6 6 (fun _ => H s.2.1 s.2.2 hs.1 ?_) (fun z => absurd z (by omega))
    rcases hs.2 with z | z
    · exact absurd z.1 (by omega)
    · exact z
  · intro q i s hi hs hw
    refine pk_le 6 i (fun z => absurd z (by omega)) (fun _ => br_c (fun h0 => H s.2.1 s.2.2 hs.1 ?_) (fun h0 => dd_fb47 hc hR hs.1 (fun r m g hr g1 g2 => nm_r (nI_1 i) (hw (r, m, g) ⟨g1, Or.inr g2⟩))))
    rcases hs.2 with z | z
    · rw [z.2] at h0
      exact absurd h0 (by decide)
    · exact z
theorem dd_R0 {s : Int32} (hs : dd_set s) : (63 &&& (s ^^^ (-1))) = 0 ↔ s = 63 := by
  rw [dd_sub]
  constructor
  · intro h
    exact dd_sb_eq (dd_sb_63 hs) h
  · intro h
    rw [h]
    exact fun c hc => hc
theorem dd_findBasis {post : St2 → Prop} {s : Int32} (hs : dd_set s) (hc : cn = 0 ∨ cn = 1)
    (H : ∀ (m : Nat) (g : Nat → Int32), dd_pt (a1 0) (63 &&& (s ^^^ (-1))) m g → (cn = 1 → dd_fin (a1 0) (a2 0) (a3 0) (63 &&& (s ^^^ (-1))) m g) → post (cn, cn, nI m, st, sm, kc, pc, ro, a1, a2, a3, g, a5, a6, a7, a8, a9, a10, a11, a12, a13, a14)) :
    wpX_findBasis post (cn, cn, bl, st, sm, kc, pc, ro, a1, a2, a3, a4, a5, a6, a7, a8, a9, a10, a11, a12, a13, a14) s := by
  refine br_c (fun h => ?_) (fun h => nm_e ?_)
  · exact dd_fb32 (n := 0) hc (dd_R_set s) (dd_pt_none ((dd_R0 hs).mpr h)) H
  · exact dd_fb32 (n := 1) hc (dd_R_set s) (dd_pt_one (fun z => h ((dd_R0 hs).mp z)) pk_us) H
end
end
section
/-! the walk: lowestOf, isDetermined, closeSet -/
section
variable {cn ct bl st sm kc pc ro : Int32} {a1 a2 a3 a4 a5 a6 a7 a8 a9 a10 a11 a12 a13 a14 : Nat → Int32}
theorem dd_sg_inj {a b : Nat} (ha : a < 32) (hb : b < 32) (h : (1 : Int32) <<< (nI a &&& 31) = (1 : Int32) <<< (nI b &&& 31)) : a = b := by
  have e : dd_b ((1 : Int32) <<< (nI a &&& 31)) a = true := by rw [dd_sg ha]; exact decide_eq_true rfl
  rw [h, dd_sg hb] at e
  exact of_decide_eq_true e
theorem dd_lowest {post : Int32 → Prop} {c : Nat} {t : Int32} (hc : c < 6) (ht : t = (1 : Int32) <<< (nI c &&& 31)) (H : post (nI c)) : wpX_lowestOf post (cn, ct, bl, st, sm, kc, pc, ro, a1, a2, a3, a4, a5, a6, a7, a8, a9, a10, a11, a12, a13, a14) t := by
  have := pk_loopD (σ := Int32) (fun q i s => wX_lowestOf_4 post t cn ct bl st sm kc pc ro a1 a2 a3 a4 a5 a6 a7 a8 a9 a10 a11 a12 a13 a14 q s (nI i + (-1))) (fun i s => i ≤ 6 ∧ (i ≤ c → s = nI c)) ?_ ?_ 6 0 ⟨by omega, fun z => absurd z (by omega)⟩
  · exact ⟨7, this⟩
  · intro q s hs
    refine br_t (by decide) ?_
    rw [hs.2 (by omega)]
    exact H
  · intro q i s hs hw
    have hi := hs.1
    show wX_lowestOf_4 post t cn ct bl st sm kc pc ro a1 a2 a3 a4 a5 a6 a7 a8 a9 a10 a11 a12 a13 a14 (q + 1) s (nI (i + 1) + (-1))
    rw [pk_m1]
    refine br_f (nI_pos (by omega)) ?_
    by_cases e : i = c
    · exact br_t (dd_t1 (by omega) (by rw [ht, dd_sg (by omega)]; exact decide_eq_true e)) (nm_e (hw _ ⟨by omega, fun _ => by rw [e]⟩))
    · exact br_f (dd_t0 (by omega) (by rw [ht, dd_sg (by omega)]; exact decide_eq_false e)) (nm_e (hw _ ⟨by omega, fun z => hs.2 (by omega)⟩))
theorem dd_det {post : Int32 → Prop} {c : Nat} (hc : c < 6) (h : cn = 0 ∨ cn = 1) (H1 : dd_D cn (a1 0) (a2 0) (a3 0) c → post 1) (H0 : ¬ dd_D cn (a1 0) (a2 0) (a3 0) c → post 0) : wpX_isDetermined post (cn, cn, bl, st, sm, kc, pc, ro, a1, a2, a3, a4, a5, a6, a7, a8, a9, a10, a11, a12, a13, a14) (nI c) := by
  have e0 : (0 : Int32).toNatClampNeg = 0 := rfl
  rcases h with e | e
  · subst e
    exact ⟨1, br_t (by decide) ⟨dd_nb (Or.inl rfl), H0 (fun z => absurd z.1 (by decide))⟩⟩
  · subst e
    have K1 : post 1 → ∀ z : Int32, z = 0 + 1 → wX_isDetermined_4 post (nI c) 1 1 bl st sm kc pc ro a1 a2 a3 a4 a5 a6 a7 a8 a9 a10 a11 a12 a13 a14 1 1 z := fun hp => nm_r (e' := 1) (by decide) (br_t (by decide) ⟨dd_nb (Or.inr rfl), hp⟩)
    have K0 : post 0 → ∀ z : Int32, z = 0 + 1 → wX_isDetermined_4 post (nI c) 1 1 bl st sm kc pc ro a1 a2 a3 a4 a5 a6 a7 a8 a9 a10 a11 a12 a13 a14 1 0 z := fun hp => nm_r (e' := 1) (by decide) (br_t (by decide) ⟨dd_nb (Or.inl rfl), hp⟩)
    refine ⟨2, br_f (by decide) ⟨pk_in 0 10 (by omega), pk_in 0 10 (by omega), br_c (fun ht => ?_) (fun ht => ?_)⟩⟩
    · rw [e0, dd_top _ (by omega), dd_an] at ht
      have nD : ¬ dd_D 1 (a1 0) (a2 0) (a3 0) c := by
        intro z
        rw [z.2.2.1, z.2.2.2] at ht
        exact absurd ht (by decide)
      exact br_t rfl (br_t (by decide) ⟨pk_in 0 10 (by omega), br_c (fun _ => br_t rfl (K0 (H0 nD))) (fun _ => K0 (H0 nD))⟩)
    · rw [e0, dd_top _ (by omega), dd_an] at ht
      have hh : dd_b (a2 0) c = true ∧ dd_b (a1 0) c = false := by
        revert ht
        cases dd_b (a2 0) c <;> cases dd_b (a1 0) c <;> decide
      exact br_t rfl (br_t (by decide) ⟨pk_in 0 10 (by omega), br_c (fun hb => br_f (by decide) (K1 (H1 ⟨rfl, hb, hh.1, hh.2⟩))) (fun hb => K0 (H0 (fun z => hb z.2.1)))⟩)
theorem dd_closeSet {post : Int32 → St2 → Prop} {s : Int32} (hs : dd_set s) (hc : cn = 0 ∨ cn = 1) (hx : dd_set (a1 0)) (hy : dd_set (a2 0))
    (H : ∀ (m : Nat) (g : Nat → Int32), post (dd_cl cn (a1 0) (a2 0) (a3 0) s) (cn, cn, nI m, st, sm, kc, pc, ro, a1, a2, a3, g, a5, a6, a7, a8, a9, a10, a11, a12, a13, a14)) : wpX_closeSet post (cn, cn, bl, st, sm, kc, pc, ro, a1, a2, a3, a4, a5, a6, a7, a8, a9, a10, a11, a12, a13, a14) s := by
  refine dd_findBasis (bl := bl) hs hc (fun m g hp hf => ?_)
  have h6 := dd_pt_le (dd_R_set s) hp
  refine Exists.elim (pk_loop (σ := Int32) (fun q i o => wX_closeSet_9 post cn cn (nI m) st sm kc pc ro a1 a2 a3 g a5 a6 a7 a8 a9 a10 a11 a12 a13 a14 q o (nI i)) (fun i o => dd_sb s o ∧ dd_sb o (dd_cl cn (a1 0) (a2 0) (a3 0) s) ∧ ∀ k c, k < i → c < 6 → g k = (1 : Int32) <<< (nI c &&& 31) → dd_D cn (a1 0) (a2 0) (a3 0) c → dd_b o c = true) m 0 s (by omega) ⟨fun c h => h, dd_cl_ge, fun k c hk => absurd hk (by omega)⟩ ?_ ?_) (fun q hq => ⟨q, hq⟩)
  · intro q o ho
    have e : o = dd_cl cn (a1 0) (a2 0) (a3 0) s := by
      refine dd_sb_eq ho.2.1 (fun c hcl => ?_)
      cases es : dd_b s c
      · obtain ⟨k, hk, hc6, hg, hD⟩ := dd_lo hx hy hp hf hcl es
        exact ho.2.2 k c hk hc6 hg hD
      · exact ho.1 c es
    refine pk_le m m (fun _ => ?_) (fun z => absurd z (by omega))
    rw [e]
    exact H m g
  · intro q i o hi ho hw
    refine pk_le m i (fun z => absurd z (by omega)) (fun _ => ⟨pk_in i 6 (by omega), pk_in i 6 (by omega), ?_⟩)
    have ei : (nI i).toNatClampNeg = i := nI_clamp (by omega)
    rw [ei]
    have hset : dd_set (g i) := fun c hc => dd_R_set s c (dd_pt_in hp hi c hc)
    refine br_c (fun ha => ?_) (fun ha => ?_)
    · obtain ⟨c, hc6, hg⟩ := dd_alone hset (dd_pt_ne hp hi) ha
      refine br_f (by decide) ⟨pk_in i 6 (by omega), dd_lowest hc6 (by rw [ei]; exact hg) (dd_det hc6 hc (fun hD => br_f (by decide) ⟨pk_in i 6 (by omega), nm_r (e' := o ||| g i) (by rw [ei]) (nm_r (nI_1 i) (hw (o ||| g i) ⟨?_, ?_, ?_⟩))⟩) (fun hD => br_t rfl (nm_r (nI_1 i) (hw o ⟨ho.1, ho.2.1, ?_⟩))))⟩
      · intro e he
        rw [dd_or, ho.1 e he]; rfl
      · intro e he
        rw [dd_or, Bool.or_eq_true] at he
        rcases he with z | z
        · exact ho.2.1 e z
        · exact dd_up hx hp hi hg hc6 hD e z
      · intro k e hk he6 hgk hDe
        rw [dd_or]
        by_cases ek : k = i
        · rw [← ek, hgk, dd_sg (show e < 32 by omega), decide_eq_true rfl, Bool.or_true]
        · rw [ho.2.2 k e (by omega) he6 hgk hDe]; rfl
      · intro k e hk he6 hgk hDe
        by_cases ek : k = i
        · rw [ek, hg] at hgk
          rw [dd_sg_inj (by omega) (by omega) hgk] at hD
          exact absurd hDe hD
        · exact ho.2.2 k e (by omega) he6 hgk hDe
    · refine br_t rfl (nm_r (nI_1 i) (hw o ⟨ho.1, ho.2.1, ?_⟩))
      intro k e hk he6 hgk hDe
      by_cases ek : k = i
      · rw [ek] at hgk
        rw [hgk] at ha
        exact absurd (dd_al2 e he6) ha
      · exact ho.2.2 k e (by omega) he6 hgk hDe
end
end
section
/-! the walk: closedByStems, nextSet, findStems: sets stay sets, no place is out of bounds -/
section
variable {cn ct bl st sm kc pc ro : Int32} {a1 a2 a3 a4 a5 a6 a7 a8 a9 a10 a11 a12 a13 a14 : Nat → Int32}
theorem dd_cbs {post : Int32 → Prop} {m : Nat} {p : Int32} (hm : m ≤ 64) (h5 : ∀ j, j < 64 → dd_set (a5 j)) (h6 : ∀ j, j < m → dd_set (a6 j)) (hp : dd_set p) (H : ∀ r, dd_set r → post r) : wpX_closedByStems post (cn, ct, bl, st, nI m, kc, pc, ro, a1, a2, a3, a4, a5, a6, a7, a8, a9, a10, a11, a12, a13, a14) p := by
  refine Exists.elim (pk_loop (σ := Int32 × Int32) (fun q i s => wX_closedByStems_7 post cn ct bl st (nI m) kc pc ro a1 a2 a3 a4 a5 a6 a7 a8 a9 a10 a11 a12 a13 a14 q s.1 s.2 (nI i)) (fun _ s => dd_set s.1) 7 0 (p, 1) (by omega) hp ?_ ?_) (fun q hq => ⟨q, hq⟩)
  · intro q s hs
    exact pk_le 7 7 (fun _ => H _ hs) (fun z => absurd z (by omega))
  · intro q i s hi hs hw
    refine pk_le 7 i (fun z => absurd z (by omega)) (fun _ => br_c (fun _ => H _ hs) (fun _ => ?_))
    refine Exists.elim (pk_loop (σ := Int32) (fun t k o => wX_closedByStems_24 post (wX_closedByStems_7 post cn ct bl st (nI m) kc pc ro a1 a2 a3 a4 a5 a6 a7 a8 a9 a10 a11 a12 a13 a14 q) (nI i) s.1 cn ct bl st (nI m) kc pc ro a1 a2 a3 a4 a5 a6 a7 a8 a9 a10 a11 a12 a13 a14 t o (nI k)) (fun _ o => dd_set o) m 0 s.1 (by omega) hs ?_ ?_) (fun t ht => ⟨t, ht⟩)
    · intro t o ho
      exact pk_le m m (fun _ => br_c (fun _ => nm_r (nI_1 i) (hw (o, 0) ho)) (fun _ => nm_r (nI_1 i) (hw (o, 1) ho))) (fun z => absurd z (by omega))
    · intro t k o hk ho hw'
      have ek : (nI k).toNatClampNeg = k := nI_clamp (by omega)
      have h6k : dd_set (a6 (nI k).toNatClampNeg) := by rw [ek]; exact h6 k hk
      have K63 : wX_closedByStems_63 post (wX_closedByStems_7 post cn ct bl st (nI m) kc pc ro a1 a2 a3 a4 a5 a6 a7 a8 a9 a10 a11 a12 a13 a14 q) (wX_closedByStems_24 post (wX_closedByStems_7 post cn ct bl st (nI m) kc pc ro a1 a2 a3 a4 a5 a6 a7 a8 a9 a10 a11 a12 a13 a14 q) (nI i) s.1 cn ct bl st (nI m) kc pc ro a1 a2 a3 a4 a5 a6 a7 a8 a9 a10 a11 a12 a13 a14 t) o (nI i) s.1 (nI k) cn ct bl st (nI m) kc pc ro a1 a2 a3 a4 a5 a6 a7 a8 a9 a10 a11 a12 a13 a14 :=
        br_t rfl (nm_r (nI_1 k) (hw' o ho))
      refine pk_le m k (fun z => absurd z (by omega)) (fun _ => ⟨pk_in k 64 (by omega), br_c (fun _ => br_f (by decide) ⟨pk_in k 64 (by omega), br_c (fun _ => K63) (fun _ => ?_)⟩) (fun _ => br_t rfl K63)⟩)
      exact br_f (by decide) ⟨pk_in k 64 (by omega), dd_in h6k, nm_e (nm_r (nI_1 k) (hw' _ (dd_set_or ho (h5 _ (dd_ix h6k).1))))⟩
theorem dd_next {post : Int32 → Prop} {m : Nat} {p : Int32} (hm : m ≤ 64) (h5 : ∀ j, j < 64 → dd_set (a5 j)) (h6 : ∀ j, j < m → dd_set (a6 j)) (hp : dd_set p) (H : ∀ r, (r = -1 ∨ dd_set r) → post r) : wpX_nextSet post (cn, ct, bl, st, nI m, kc, pc, ro, a1, a2, a3, a4, a5, a6, a7, a8, a9, a10, a11, a12, a13, a14) p := by
  have := pk_loopD (σ := Unit) (fun q i _ => wX_nextSet_2 post p cn ct bl st (nI m) kc pc ro a1 a2 a3 a4 a5 a6 a7 a8 a9 a10 a11 a12 a13 a14 q (nI i + (-1))) (fun i _ => i ≤ 6) ?_ ?_ 6 () (by omega)
  · exact ⟨7, this⟩
  · intro q s hs
    exact br_t (by decide) (H _ (Or.inl rfl))
  · intro q i s hs hw
    show wX_nextSet_2 post p cn ct bl st (nI m) kc pc ro a1 a2 a3 a4 a5 a6 a7 a8 a9 a10 a11 a12 a13 a14 (q + 1) (nI (i + 1) + (-1))
    rw [pk_m1]
    have hn : i ≤ 6 := by omega
    refine br_f (nI_pos (by omega)) (br_c (fun _ => nm_e ?_) (fun _ => nm_e (hw () hn)))
    exact dd_cbs hm h5 h6 (dd_set_or (dd_set_and _ hp) (dd_set_sg (by omega))) (fun r hr => br_c (fun _ => H r (Or.inr hr)) (fun _ => nm_e (hw () hn)))
theorem dd_82 {post : St2 → Prop} {J : _} {m i : Nat} {p : Int32} (hm : m ≤ 64) (h5 : ∀ j, j < 64 → dd_set (a5 j)) (h6 : ∀ j, j < m → dd_set (a6 j)) (hp : dd_set p)
    (H : ∀ r, (r = -1 ∨ dd_set r) → J r (nI (i + 1)) (nI m) a1 a2 a3 a4 a5 a6 a7 a8 a9 a10 a11 a12 a13 a14) : wX_findStems_82 post J p (nI i) cn ct bl st (nI m) kc pc ro a1 a2 a3 a4 a5 a6 a7 a8 a9 a10 a11 a12 a13 a14 :=
  br_c (fun _ => nm_r (nI_1 i) (H _ (Or.inl rfl))) (fun _ => dd_next hm h5 h6 hp (fun r hr => nm_r (nI_1 i) (H r hr)))
theorem dd_34 {post : St2 → Prop} {p : Int32} (h5 : ∀ j, j < 64 → dd_set (a5 j)) (hp : dd_set p)
    (H : ∀ (m : Nat) (g6 g7 : Nat → Int32), post (cn, ct, bl, st, nI m, kc, pc, ro, a1, a2, a3, a4, a5, g6, g7, a8, a9, a10, a11, a12, a13, a14)) : ∃ q, wX_findStems_34 post cn ct bl st kc pc ro q p 0 (nI 0) a1 a2 a3 a4 a5 a6 a7 a8 a9 a10 a11 a12 a13 a14 := by
  refine Exists.elim (pk_loop (σ := Int32 × Nat × (Nat → Int32) × (Nat → Int32)) (fun q i s => wX_findStems_34 post cn ct bl st kc pc ro q s.1 (nI i) (nI s.2.1) a1 a2 a3 a4 a5 s.2.2.1 s.2.2.2 a8 a9 a10 a11 a12 a13 a14) (fun i s => (s.1 = -1 ∨ dd_set s.1) ∧ s.2.1 ≤ i ∧ ∀ j, j < s.2.1 → dd_set (s.2.2.1 j)) 64 0 (p, 0, a6, a7) (by omega) ⟨Or.inr hp, Nat.le_refl 0, fun j hj => absurd hj (Nat.not_lt_zero j)⟩ ?_ ?_) (fun q hq => ⟨q, hq⟩)
  · intro q s hs
    exact pk_le 64 64 (fun _ => H _ _ _) (fun z => absurd z (by omega))
  · intro q i s hi hs hw
    refine pk_le 64 i (fun z => absurd z (by omega)) (fun _ => br_c (fun _ => H _ _ _) (fun hne => ?_))
    have hset : dd_set s.1 := by
      rcases hs.1 with z | z
      · exact absurd z hne
      · exact z
    have hle := hs.2.1
    refine ⟨dd_in hset, br_c (fun _ => ?_) (fun _ => ⟨dd_in hset, nm_e ⟨pk_in s.2.1 64 (by omega), nm_e (nm_r (nI_1 s.2.1) ?_)⟩⟩)⟩
    · exact dd_82 (by omega) h5 hs.2.2 hset (fun r hr => hw (r, s.2.1, s.2.2.1, s.2.2.2) ⟨hr, Nat.le_succ_of_le hle, hs.2.2⟩)
    · rw [nI_clamp (show s.2.1 < 2 ^ 31 by omega)]
      have h6 : ∀ j, j < s.2.1 + 1 → dd_set (upd s.2.2.1 s.2.1 s.1 j) := by
        intro j hj
        by_cases e : j = s.2.1
        · rw [e, pk_us]; exact hset
        · rw [pk_un e]; exact hs.2.2 j (by omega)
      exact dd_82 (by omega) h5 h6 hset (fun r hr => hw (r, s.2.1 + 1, _, _) ⟨hr, Nat.succ_le_succ hle, h6⟩)
theorem dd_findStems {post : St2 → Prop} (h5 : ∀ j, j < 64 → dd_set (a5 j))
    (H : ∀ (m : Nat) (g6 g7 : Nat → Int32), post (cn, ct, bl, st, nI m, kc, pc, ro, a1, a2, a3, a4, a5, g6, g7, a8, a9, a10, a11, a12, a13, a14)) : wpX_findStems post (cn, ct, bl, st, sm, kc, pc, ro, a1, a2, a3, a4, a5, a6, a7, a8, a9, a10, a11, a12, a13, a14) := by
  refine Exists.elim (pk_loop (σ := Nat → Int32) (fun q i g => wX_findStems_7 post cn ct bl st 0 kc pc ro q (nI i) a1 a2 a3 a4 a5 a6 g a8 a9 a10 a11 a12 a13 a14) (fun _ _ => True) 64 0 a7 (by omega) trivial ?_ ?_) (fun q hq => ⟨q, hq⟩)
  · intro q g _
    refine pk_le 64 64 (fun _ => ?_) (fun z => absurd z (by omega))
    exact dd_cbs (m := 0) (by omega) h5 (fun j hj => absurd hj (by omega)) dd_set_0 (fun r hr => dd_34 h5 hr (fun m g6 g7 => H m g6 g7))
  · intro q i g hi _ hw
    exact pk_le 64 i (fun z => absurd z (by omega)) (fun _ => ⟨pk_in i 64 hi, nm_e (nm_r (nI_1 i) (hw _ trivial))⟩)
end
end
section
/-! (written by second.py) the walk, second chain: splitBlock, splitBy, splitByGiven, findBasis -/
section
variable {cn ct bl st sm kc pc ro : Int32} {a1 a2 a3 a4 a5 a6 a7 a8 a9 a10 a11 a12 a13 a14 : Nat → Int32}
theorem dd_splitBlock_2 {post : Int32 → St2 → Prop} {n k : Nat} {f : Nat → Int32} {w : Int32} (hk : k < 6) (hn6 : n ≤ 6) (hn : ¬ (f k &&& w) = 0 → ¬ (f k &&& w) = f k → n < 6)
    (H0 : ((f k &&& w) = 0 ∨ (f k &&& w) = f k) → post 0 (cn, ct, nI n, st, sm, kc, pc, ro, a1, a2, a3, f, a5, a6, a7, a8, a9, a10, a11, a12, a13, a14))
    (H1 : ¬ (f k &&& w) = 0 → ¬ (f k &&& w) = f k → post 1 (cn, ct, nI (n + 1), st, sm, kc, pc, ro, a1, a2, a3, dd_g f n k w, a5, a6, a7, a8, a9, a10, a11, a12, a13, a14)) :
    wpX_splitBlock_2 post (cn, ct, nI n, st, sm, kc, pc, ro, a1, a2, a3, f, a5, a6, a7, a8, a9, a10, a11, a12, a13, a14) (nI k) w := by
  unfold wpX_splitBlock_2
  dsimp only
  rw [nI_clamp (show k < 2 ^ 31 by omega), nI_clamp (show n < 2 ^ 31 by omega)]
  exact ⟨pk_in k 6 hk, nm_e (br_c (fun h => H0 (Or.inl h)) (fun h0 => ⟨pk_in k 6 hk, br_c (fun h => H0 (Or.inr h)) (fun h1 => ⟨pk_in k 6 hk, pk_in n 6 (hn h0 h1), nm_e ⟨pk_in k 6 hk, nm_e (nm_r (nI_1 n) (H1 h0 h1))⟩⟩)⟩))⟩
theorem dd_splitBy_2 {post : Int32 → St2 → Prop} {x R w : Int32} {n : Nat} {f : Nat → Int32} (hR : dd_set R) (hp : dd_pt x R n f)
    (H : ∀ (r : Int32) (m : Nat) (g : Nat → Int32), (r = 0 ∨ r = 1) → dd_pt x R m g → (∀ w', dd_rf x R w' n f → dd_rf x R w' m g) → dd_rf x R w m g → post r (cn, ct, nI m, st, sm, kc, pc, ro, a1, a2, a3, g, a5, a6, a7, a8, a9, a10, a11, a12, a13, a14)) :
    wpX_splitBy_2 post (cn, ct, nI n, st, sm, kc, pc, ro, a1, a2, a3, f, a5, a6, a7, a8, a9, a10, a11, a12, a13, a14) x w := by
  have h6 := dd_pt_le hR hp
  refine Exists.elim (pk_loop (σ := Int32 × Nat × (Nat → Int32)) (fun q i s => wX_splitBy_2_11 post x w (nI n) q s.1 (nI i) cn ct (nI s.2.1) st sm kc pc ro a1 a2 a3 s.2.2 a5 a6 a7 a8 a9 a10 a11 a12 a13 a14) (fun i s => (s.1 = 0 ∨ s.1 = 1) ∧ dd_SB x R w n f i s.2.1 s.2.2) n 0 (0, n, f) (by omega) ⟨Or.inl rfl, dd_SB_0 hp⟩ ?_ ?_) (fun q hq => ⟨q, hq⟩)
  · intro q s hs
    exact pk_le n n (fun _ => ⟨dd_nb hs.1, H s.1 s.2.1 s.2.2 hs.1 hs.2.1 hs.2.2.2.1 (dd_SB_end hs.2)⟩) (fun z => absurd z (by omega))
  · intro q i s hi hs hw
    have hs6 := dd_pt_le hR hs.2.1
    have X : ∀ m g, dd_SB x R w n f (i + 1) m g → ∀ r : Int32, (r = 0 ∨ r = 1) → ∀ z : Int32, z = nI i + 1 → wX_splitBy_2_11 post x w (nI n) q r z cn ct (nI m) st sm kc pc ro a1 a2 a3 g a5 a6 a7 a8 a9 a10 a11 a12 a13 a14 :=
      fun m g K r hr => nm_r (nI_1 i) (hw (r, m, g) ⟨hr, K⟩)
    refine pk_le n i (fun z => absurd z (by omega)) (fun _ => ⟨pk_in i 6 (by omega), ?_⟩)
    rw [nI_clamp (show i < 2 ^ 31 by omega)]
    refine br_c (fun hx => ?_) (fun hx => X _ _ (dd_SB_meet hs.2 hi hx) _ hs.1)
    refine dd_splitBlock_2 (by omega) (by omega) (fun h0 h1 => ?_) (fun h => ?_) (fun h0 h1 => ?_)
    · have := dd_pt_le hR (dd_SB_split hs.2 hi hx h0 h1).1
      omega
    · have K := X _ _ (dd_SB_stay hs.2 h)
      exact ⟨fun _ => ⟨fun _ => K 0 (Or.inl rfl), fun _ => K 1 (Or.inr rfl)⟩, fun _ => K 1 (Or.inr rfl)⟩
    · have K := X _ _ (dd_SB_split hs.2 hi hx h0 h1)
      exact ⟨fun _ => ⟨fun _ => K 0 (Or.inl rfl), fun _ => K 1 (Or.inr rfl)⟩, fun _ => K 1 (Or.inr rfl)⟩
theorem dd_splitByGiven_2 {post : Int32 → St2 → Prop} {R : Int32} {n : Nat} {f : Nat → Int32} (hR : dd_set R) (hp : dd_pt (a1 0) R n f)
    (H : ∀ (r : Int32) (m : Nat) (g : Nat → Int32), (r = 0 ∨ r = 1) → dd_pt (a1 0) R m g → dd_fin (a1 0) (a2 0) (a3 0) R m g → post r (cn, ct, nI m, st, sm, kc, pc, ro, a1, a2, a3, g, a5, a6, a7, a8, a9, a10, a11, a12, a13, a14)) :
    wpX_splitByGiven_2 post (cn, ct, nI n, st, sm, kc, pc, ro, a1, a2, a3, f, a5, a6, a7, a8, a9, a10, a11, a12, a13, a14) (nI 0) := by
  unfold wpX_splitByGiven_2
  dsimp only
  rw [nI_clamp (show 0 < 2 ^ 31 by omega)]
  refine ⟨pk_in 0 10 (by omega), br_c (fun hb => ?_) (fun hb => ⟨pk_in 0 10 (by omega), pk_in 0 10 (by omega), ?_⟩)⟩
  · refine Exists.elim (pk_loop (σ := Int32 × Nat × (Nat → Int32)) (fun q i s => wX_splitByGiven_2_30 post (nI 0) q s.1 (nI i) cn ct (nI s.2.1) st sm kc pc ro a1 a2 a3 s.2.2 a5 a6 a7 a8 a9 a10 a11 a12 a13 a14) (fun i s => (s.1 = 0 ∨ s.1 = 1) ∧ dd_pt (a1 0) R s.2.1 s.2.2 ∧ ∀ c, c < i → dd_b (a2 0) c = true → dd_rf (a1 0) R ((1 : Int32) <<< (nI c &&& 31)) s.2.1 s.2.2) 6 0 (0, n, f) (by omega) ⟨Or.inl rfl, hp, fun c hc => absurd hc (by omega)⟩ ?_ ?_) (fun q hq => ⟨q, hq⟩)
    · intro q s hs
      exact pk_le 6 6 (fun _ => ⟨dd_nb hs.1, H s.1 s.2.1 s.2.2 hs.1 hs.2.1 ⟨fun _ => hs.2.2, fun z => absurd hb z⟩⟩) (fun z => absurd z (by omega))
    · intro q i s hi hs hw
      have X : ∀ m g, dd_pt (a1 0) R m g → (∀ c, c < i + 1 → dd_b (a2 0) c = true → dd_rf (a1 0) R ((1 : Int32) <<< (nI c &&& 31)) m g) → ∀ r : Int32, (r = 0 ∨ r = 1) → ∀ z : Int32, z = nI i + 1 → wX_splitByGiven_2_30 post (nI 0) q r z cn ct (nI m) st sm kc pc ro a1 a2 a3 g a5 a6 a7 a8 a9 a10 a11 a12 a13 a14 :=
        fun m g K1 K2 r hr => nm_r (nI_1 i) (hw (r, m, g) ⟨hr, K1, K2⟩)
      refine pk_le 6 i (fun z => absurd z (by omega)) (fun _ => ⟨pk_in 0 10 (by omega), ?_⟩)
      rw [nI_clamp (show 0 < 2 ^ 31 by omega)]
      cases hy : dd_b (a2 0) i
      · refine br_f (dd_t0 (by omega) hy) (X _ _ hs.2.1 (fun c hc hyc => ?_) _ hs.1)
        by_cases e : c = i
        · rw [e, hy] at hyc
          exact absurd hyc (by decide)
        · exact hs.2.2 c (by omega) hyc
      · refine br_t (dd_t1 (by omega) hy) ⟨pk_in 0 10 (by omega), dd_splitBy_2 hR hs.2.1 (fun r m g hr g1 g2 g3 => ?_)⟩
        have K := X m g g1 (fun c hc hyc => by
          by_cases e : c = i
          · rw [e]; exact g3
          · exact g2 _ (hs.2.2 c (by omega) hyc))
        exact ⟨fun _ => ⟨fun _ => K 0 (Or.inl rfl), fun _ => K 1 (Or.inr rfl)⟩, fun _ => K 1 (Or.inr rfl)⟩
  · exact dd_splitBy_2 hR hp (fun r m g hr g1 g2 g3 => ⟨dd_nb hr, H r m g hr g1 ⟨fun z => absurd z hb, fun _ => g3⟩⟩)
/-- one round over the given dependencies: none, or one that counts -/
theorem dd_fb47_2 {post : St2 → Prop} {J : _} {R x3 : Int32} {n : Nat} {f : Nat → Int32} (hc : cn = 0 ∨ cn = 1) (hR : dd_set R) (hp : dd_pt (a1 0) R n f)
    (H : ∀ (r : Int32) (m : Nat) (g : Nat → Int32), (r = 0 ∨ r = 1) → dd_pt (a1 0) R m g → (cn = 1 → dd_fin (a1 0) (a2 0) (a3 0) R m g) → ∀ z : Int32, z = x3 + 1 → J r z cn cn (nI m) st sm kc pc ro a1 a2 a3 g a5 a6 a7 a8 a9 a10 a11 a12 a13 a14) :
    ∃ q, wX_findBasis_2_47 post J x3 q 0 0 cn cn (nI n) st sm kc pc ro a1 a2 a3 f a5 a6 a7 a8 a9 a10 a11 a12 a13 a14 := by
  rcases hc with e | e
  · subst e
    exact ⟨1, br_t (by decide) (H 0 n f (Or.inl rfl) hp (fun z => absurd z (by decide)))⟩
  · subst e
    refine ⟨2, br_f (by decide) (br_t (by decide) (dd_splitByGiven_2 (n := n) (f := f) hR hp (fun r m g hr g1 g2 => ?_)))⟩
    have K : ∀ r : Int32, (r = 0 ∨ r = 1) → ∀ z : Int32, z = 0 + 1 → wX_findBasis_2_47 post J x3 1 r z 1 1 (nI m) st sm kc pc ro a1 a2 a3 g a5 a6 a7 a8 a9 a10 a11 a12 a13 a14 :=
      fun r hr => nm_r (e' := 1) (by decide) (br_t (by decide) (H r m g hr g1 (fun _ => g2)))
    exact ⟨fun _ => ⟨fun _ => K 0 (Or.inl rfl), fun _ => K 1 (Or.inr rfl)⟩, fun _ => K 1 (Or.inr rfl)⟩
theorem dd_fb32_2 {post : St2 → Prop} {R : Int32} {n : Nat} {f : Nat → Int32} (hc : cn = 0 ∨ cn = 1) (hR : dd_set R) (hp : dd_pt (a1 0) R n f)
    (H : ∀ (m : Nat) (g : Nat → Int32), dd_pt (a1 0) R m g → (cn = 1 → dd_fin (a1 0) (a2 0) (a3 0) R m g) → post (cn, cn, nI m, st, sm, kc, pc, ro, a1, a2, a3, g, a5, a6, a7, a8, a9, a10, a11, a12, a13, a14)) :
    ∃ q, wX_findBasis_2_32 post q 1 0 cn cn (nI n) st sm kc pc ro a1 a2 a3 f a5 a6 a7 a8 a9 a10 a11 a12 a13 a14 := by
  refine Exists.elim (pk_loop (σ := Int32 × Nat × (Nat → Int32)) (fun q i s => wX_findBasis_2_32 post q s.1 (nI i) cn cn (nI s.2.1) st sm kc pc ro a1 a2 a3 s.2.2 a5 a6 a7 a8 a9 a10 a11 a12 a13 a14) (fun i s => dd_pt (a1 0) R s.2.1 s.2.2 ∧ ((i = 0 ∧ s.1 = 1) ∨ (cn = 1 → dd_fin (a1 0) (a2 0) (a3 0) R s.2.1 s.2.2))) 6 0 (1, n, f) (by omega) ⟨hp, Or.inl ⟨rfl, rfl⟩⟩ ?_ ?_) (fun q hq => ⟨q, hq⟩)
  · intro q s hs
    refine pk_le 6 6 (fun _ => H s.2.1 s.2.2 hs.1 ?_) (fun z => absurd z (by omega))
    rcases hs.2 with z | z
    · exact absurd z.1 (by omega)
    · exact z
  · intro q i s hi hs hw
    refine pk_le 6 i (fun z => absurd z (by omega)) (fun _ => br_c (fun h0 => H s.2.1 s.2.2 hs.1 ?_) (fun h0 => dd_fb47_2 hc hR hs.1 (fun r m g hr g1 g2 => nm_r (nI_1 i) (hw (r, m, g) ⟨g1, Or.inr g2⟩))))
    rcases hs.2 with z | z
    · rw [z.2] at h0
      exact absurd h0 (by decide)
    · exact z
theorem dd_findBasis_2 {post : St2 → Prop} {s : Int32} (hs : dd_set s) (hc : cn = 0 ∨ cn = 1)
    (H : ∀ (m : Nat) (g : Nat → Int32), dd_pt (a1 0) (63 &&& (s ^^^ (-1))) m g → (cn = 1 → dd_fin (a1 0) (a2 0) (a3 0) (63 &&& (s ^^^ (-1))) m g) → post (cn, cn, nI m, st, sm, kc, pc, ro, a1, a2, a3, g, a5, a6, a7, a8, a9, a10, a11, a12, a13, a14)) :
    wpX_findBasis_2 post (cn, cn, bl, st, sm, kc, pc, ro, a1, a2, a3, a4, a5, a6, a7, a8, a9, a10, a11, a12, a13, a14) s := by
  refine br_c (fun h => ?_) (fun h => nm_e ?_)
  · exact dd_fb32_2 (n := 0) hc (dd_R_set s) (dd_pt_none ((dd_R0 hs).mpr h)) H
  · exact dd_fb32_2 (n := 1) hc (dd_R_set s) (dd_pt_one (fun z => h ((dd_R0 hs).mp z)) pk_us) H
end
end
section
/-! the walk: reduced, addKey, hasKeyWithin, findKeys: one least key M, so one key -/
section
variable {cn ct bl st sm kc pc ro : Int32} {a1 a2 a3 a4 a5 a6 a7 a8 a9 a10 a11 a12 a13 a14 : Nat → Int32}
/-- the table gives all just where the set is above M -/
def dd_K (M : Int32) (a5 : Nat → Int32) : Prop := dd_set M ∧ ∀ s, dd_set s → (a5 s.toNatClampNeg = 63 ↔ dd_sb M s)
theorem dd_reduced {post : Int32 → Prop} {M : Int32} (hK : dd_K M a5) (H : ∀ r, dd_set r → dd_sb r M → post r) : wpX_reduced post (cn, ct, bl, st, sm, kc, pc, ro, a1, a2, a3, a4, a5, a6, a7, a8, a9, a10, a11, a12, a13, a14) 63 := by
  have := pk_loopD (σ := Int32) (fun q i o => wX_reduced_4 post cn ct bl st sm kc pc ro a1 a2 a3 a4 a5 a6 a7 a8 a9 a10 a11 a12 a13 a14 q o (nI i + (-1))) (fun i o => i ≤ 6 ∧ dd_set o ∧ dd_sb M o ∧ ∀ c, i ≤ c → dd_b o c = true → dd_b M c = true) ?_ ?_ 6 63 ⟨by omega, dd_set_63, dd_sb_63 hK.1, fun c hc h => absurd (dd_set_63 c h) (by omega)⟩
  · exact ⟨7, this⟩
  · intro q o ho
    exact br_t (by decide) (H o ho.2.1 (fun c hc => ho.2.2.2 c (by omega) hc))
  · intro q i o ho hw
    have hi := ho.1
    show wX_reduced_4 post cn ct bl st sm kc pc ro a1 a2 a3 a4 a5 a6 a7 a8 a9 a10 a11 a12 a13 a14 (q + 1) o (nI (i + 1) + (-1))
    rw [pk_m1]
    have hl : dd_set (o &&& (((1 : Int32) <<< (nI i &&& 31)) ^^^ (-1))) := dd_set_and _ ho.2.1
    have bl : ∀ c, dd_b (o &&& (((1 : Int32) <<< (nI i &&& 31)) ^^^ (-1))) c = true ↔ (dd_b o c = true ∧ c ≠ i) := by
      intro c
      rw [dd_an, dd_sg (by omega), Bool.and_eq_true]
      by_cases e : c = i
      · simp [e]
      · simp [e]
    refine br_f (nI_pos (by omega)) (nm_e ⟨dd_in hl, br_c (fun h => nm_e (hw _ ⟨by omega, hl, (hK.2 _ hl).mp h, ?_⟩)) (fun h => nm_e (hw _ ⟨by omega, ho.2.1, ho.2.2.1, ?_⟩))⟩)
    · intro c hc hb
      have := (bl c).mp hb
      exact ho.2.2.2 c (by omega) this.1
    · intro c hc hb
      by_cases e : c = i
      · cases em : dd_b M c
        · refine absurd ((hK.2 _ hl).mpr (fun d hd => (bl d).mpr ⟨ho.2.2.1 d hd, ?_⟩)) h
          intro z
          rw [z, ← e, em] at hd
          exact absurd hd (by decide)
        · rfl
      · exact ho.2.2.2 c (by omega) hb
theorem dd_addKey {post : St2 → Prop} {p : Int32} (H : post (cn, ct, bl, st, sm, 1, pc, ro, a1, a2, a3, a4, a5, a6, a7, upd a8 0 p, a9, a10, a11, a12, a13, a14)) : wpX_addKey post (cn, ct, bl, st, sm, 0, pc, ro, a1, a2, a3, a4, a5, a6, a7, a8, a9, a10, a11, a12, a13, a14) p :=
  ⟨1, br_t (by decide) ⟨pk_in 0 20 (by omega), nm_e (nm_r (e' := 1) (by decide) H)⟩⟩
theorem dd_hasKey {post : Int32 → Prop} {s : Int32} (h : dd_sb (a8 0) s) (H : post 1) : wpX_hasKeyWithin post (cn, ct, bl, st, sm, 1, pc, ro, a1, a2, a3, a4, a5, a6, a7, a8, a9, a10, a11, a12, a13, a14) s :=
  ⟨2, br_f (by decide) (br_t rfl ⟨pk_in 0 20 (by omega), br_t (dd_sub.mpr h) (br_f (by decide) (nm_r (e' := 1) (by decide) (br_t (by decide) ⟨dd_nb (Or.inr rfl), H⟩)))⟩)⟩
theorem dd_findKeys {post : St2 → Prop} {M : Int32} (hK : dd_K M a5) (H : ∀ g8 : Nat → Int32, post (cn, ct, bl, st, sm, 1, pc, ro, a1, a2, a3, a4, a5, a6, a7, g8, a9, a10, a11, a12, a13, a14)) : wpX_findKeys post (cn, ct, bl, st, sm, kc, pc, ro, a1, a2, a3, a4, a5, a6, a7, a8, a9, a10, a11, a12, a13, a14) := by
  refine dd_reduced hK (fun r hr hM => dd_addKey ?_)
  have := pk_loopD (σ := Unit) (fun q i _ => wX_findKeys_20 post q (nI i + (-1)) cn ct bl st sm 1 pc ro a1 a2 a3 a4 a5 a6 a7 (upd a8 0 r) a9 a10 a11 a12 a13 a14) (fun i _ => i ≤ 64) ?_ ?_ 64 () (by omega)
  · exact ⟨65, this⟩
  · intro q _ _
    exact br_t (by decide) (H _)
  · intro q i u hi hw
    show wX_findKeys_20 post (q + 1) (nI (i + 1) + (-1)) cn ct bl st sm 1 pc ro a1 a2 a3 a4 a5 a6 a7 (upd a8 0 r) a9 a10 a11 a12 a13 a14
    rw [pk_m1]
    have hn : i ≤ 64 := by omega
    have hs : dd_set (nI i) := dd_set_nI (by omega)
    refine br_f (nI_pos (by omega)) ⟨pk_in i 64 (by omega), br_c (fun h => dd_hasKey (fun c hc => ?_) (br_f (by decide) (nm_e (hw () hn)))) (fun _ => nm_e (hw () hn))⟩
    exact (hK.2 _ hs).mp h c (hM c (by rw [pk_us] at hc; exact hc))
end
end
section
/-! the walk: study, closure -/
section
variable {cn ct bl st sm kc pc ro : Int32} {a1 a2 a3 a4 a5 a6 a7 a8 a9 a10 a11 a12 a13 a14 : Nat → Int32}
theorem dd_study {post : St2 → Prop} (hc : cn = 0 ∨ cn = 1) (hx : dd_set (a1 0)) (hy : dd_set (a2 0)) (hst : st = 0)
    (H : ∀ (bl sm : Int32) (g4 g5 g6 g7 g8 : Nat → Int32), (∀ j, j < 64 → g5 j = dd_cl cn (a1 0) (a2 0) (a3 0) (nI j)) → post (cn, cn, bl, 1, sm, 1, pc, ro, a1, a2, a3, g4, g5, g6, g7, g8, a9, a10, a11, a12, a13, a14)) :
    wpX_study post (cn, ct, bl, st, sm, kc, pc, ro, a1, a2, a3, a4, a5, a6, a7, a8, a9, a10, a11, a12, a13, a14) := by
  have ec : ((1 : Int32) <<< (cn &&& 31)) - 1 = cn := by
    rcases hc with e | e
    · rw [e]; decide
    · rw [e]; decide
  refine br_t hst (nm_r ec ?_)
  refine Exists.elim (pk_loop (σ := Int32 × (Nat → Int32) × (Nat → Int32)) (fun q i s => wX_study_22 post q (nI i) cn cn s.1 st sm kc pc ro a1 a2 a3 s.2.1 s.2.2 a6 a7 a8 a9 a10 a11 a12 a13 a14) (fun i s => ∀ j, j < i → s.2.2 j = dd_cl cn (a1 0) (a2 0) (a3 0) (nI j)) 64 0 (bl, a4, a5) (by omega) (fun j hj => absurd hj (by omega)) ?_ ?_) (fun q hq => ⟨q, hq⟩)
  · intro q s hs
    refine pk_le 64 64 (fun _ => ?_) (fun z => absurd z (by omega))
    refine dd_findStems (bl := s.1) (a4 := s.2.1) (fun j hj => ?_) (fun m g6 g7 => ?_)
    · rw [hs j hj]
      exact dd_cl_set (dd_set_nI hj) hy
    · refine dd_findKeys (M := dd_M cn (a1 0) (a2 0) (a3 0)) ⟨dd_M_set hx, fun t ht => ?_⟩ (fun g8 => H _ _ _ _ _ _ _ hs)
      have := dd_ix ht
      rw [hs _ this.1, this.2]
      exact dd_M_iff hx hy ht
  · intro q i s hi hs hw
    refine pk_le 64 i (fun z => absurd z (by omega)) (fun _ => dd_closeSet (bl := s.1) (a4 := s.2.1) (dd_set_nI hi) hc hx hy (fun m g => ⟨pk_in i 64 hi, nm_r (e' := upd s.2.2 i (dd_cl cn (a1 0) (a2 0) (a3 0) (nI i))) (by rw [nI_clamp (by omega)]) (nm_r (nI_1 i) (hw (nI m, g, upd s.2.2 i (dd_cl cn (a1 0) (a2 0) (a3 0) (nI i))) ?_))⟩))
    intro j hj
    by_cases e : j = i
    · rw [e]; exact pk_us
    · exact (pk_un e).trans (hs j (by omega))
/-- in 0..63, or not -/
theorem dd_rng (z : Int32) : (¬ dd_set z ∧ (z < 0 ∨ (¬ z < 0 ∧ 63 < z ∧ ¬ z ≤ 63)) ∧ ¬ z = 63) ∨ (dd_set z ∧ ¬ z < 0 ∧ ¬ 63 < z ∧ z ≤ 63) := by
  rcases pk_ix z (n := 64) (by omega) with h | h | h
  · refine Or.inl ⟨fun g => ?_, Or.inl h, fun e => ?_⟩
    · obtain ⟨j, hj, e⟩ := dd_set_of g
      rw [e] at h
      exact absurd h (nI_pos (by omega))
    · rw [e] at h
      exact absurd h (by decide)
  · have h' : (64 : Int32) ≤ z := h
    rw [Int32.le_iff_toInt_le] at h'
    have e64 : (64 : Int32).toInt = 64 := by decide
    have e63 : (63 : Int32).toInt = 63 := by decide
    have e0 : (0 : Int32).toInt = 0 := by decide
    refine Or.inl ⟨fun g => ?_, Or.inr ⟨?_, ?_, ?_⟩, fun e => ?_⟩
    · obtain ⟨j, hj, e⟩ := dd_set_of g
      rw [e, e64, nI_toInt (by omega)] at h'
      omega
    · rw [Int32.lt_iff_toInt_lt]; omega
    · rw [Int32.lt_iff_toInt_lt]; omega
    · rw [Int32.le_iff_toInt_le]; omega
    · rw [e, e64, e63] at h'
      omega
  · obtain ⟨j, hj, e⟩ := h
    refine Or.inr ⟨by rw [e]; exact dd_set_nI hj, by rw [e]; exact nI_pos (by omega), ?_, ?_⟩
    · rw [e]; exact nI_nlt (a := 63) (b := j) (by omega) (by omega)
    · rw [e]; exact nI_le (a := j) (b := 63) (by omega) (by omega)
theorem dd_bad1 {post : Int32 → Prop} {z : Int32} (h : ¬ dd_set z) (H : post 1) : wpX_badSet post (cn, ct, bl, st, sm, kc, pc, ro, a1, a2, a3, a4, a5, a6, a7, a8, a9, a10, a11, a12, a13, a14) z := by
  rcases dd_rng z with g | g
  · rcases g.2.1 with e | e
    · exact br_t e H
    · exact br_f e.1 (br_f e.2.2 H)
  · exact absurd g.1 h
theorem dd_bad0 {post : Int32 → Prop} {z : Int32} (h : dd_set z) (H : post 0) : wpX_badSet post (cn, ct, bl, st, sm, kc, pc, ro, a1, a2, a3, a4, a5, a6, a7, a8, a9, a10, a11, a12, a13, a14) z := by
  rcases dd_rng z with g | g
  · exact absurd h g.1
  · exact br_f g.2.1 (br_t g.2.2.2 H)
theorem dd_closure1 {post : Int32 → St2 → Prop} {z : Int32} (h : ¬ dd_set z) (H : post (-1) (cn, ct, bl, st, sm, kc, pc, ro, a1, a2, a3, a4, a5, a6, a7, a8, a9, a10, a11, a12, a13, a14)) : wpX_closure post (cn, ct, bl, st, sm, kc, pc, ro, a1, a2, a3, a4, a5, a6, a7, a8, a9, a10, a11, a12, a13, a14) z := by
  unfold wpX_closure
  exact dd_bad1 h (br_f (by decide) H)
theorem dd_closure0 {post : Int32 → St2 → Prop} {z : Int32} (h : dd_set z) (hc : cn = 0 ∨ cn = 1) (hx : dd_set (a1 0)) (hy : dd_set (a2 0)) (hst : st = 0)
    (H : ∀ (bl sm : Int32) (g4 g5 g6 g7 g8 : Nat → Int32), post (dd_cl cn (a1 0) (a2 0) (a3 0) z) (cn, cn, bl, 1, sm, 1, pc, ro, a1, a2, a3, g4, g5, g6, g7, g8, a9, a10, a11, a12, a13, a14)) :
    wpX_closure post (cn, ct, bl, st, sm, kc, pc, ro, a1, a2, a3, a4, a5, a6, a7, a8, a9, a10, a11, a12, a13, a14) z := by
  unfold wpX_closure
  refine dd_bad0 h (br_t rfl (dd_study hc hx hy hst (fun bl sm g4 g5 g6 g7 g8 h5 => ⟨dd_in h, ?_⟩)))
  have := dd_ix h
  rw [h5 _ this.1, this.2]
  exact H _ _ _ _ _ _ _
end
end
section
/-! the walk: give, bundles, part, joinAll, lossless, write -/
section
variable {cn ct bl st sm kc pc ro : Int32} {a1 a2 a3 a4 a5 a6 a7 a8 a9 a10 a11 a12 a13 a14 : Nat → Int32}
theorem dd_give0 {post : Int32 → St2 → Prop} {x y b : Int32} (hx : dd_set x) (hy : dd_set y)
    (H : ∀ v : Int32, (v = 0 ↔ b = 0) → post 0 (1, ct, bl, 0, sm, kc, pc, ro, upd a1 0 x, upd a2 0 y, upd a3 0 v, a4, a5, a6, a7, a8, a9, a10, a11, a12, a13, a14)) : wpX_give post (0, ct, bl, st, sm, kc, pc, ro, a1, a2, a3, a4, a5, a6, a7, a8, a9, a10, a11, a12, a13, a14) x y b := by
  unfold wpX_give
  refine dd_bad0 hx (br_t rfl (dd_bad0 hy (br_t rfl (br_f (by decide) ⟨pk_in 0 10 (by omega), nm_e ⟨pk_in 0 10 (by omega), nm_e (br_c (fun hb => ?_) (fun hb => ?_))⟩⟩))))
  · refine ⟨pk_in 0 10 (by omega), nm_r (e' := upd a3 0 0) rfl (nm_r (e' := 1) (by decide) ?_)⟩
    rw [show (1 : Int32) - 1 = 0 from by decide]
    exact H 0 ⟨fun _ => hb, fun _ => rfl⟩
  · refine ⟨pk_in 0 10 (by omega), nm_r (e' := upd a3 0 1) rfl (nm_r (e' := 1) (by decide) ?_)⟩
    rw [show (1 : Int32) - 1 = 0 from by decide]
    exact H 1 ⟨fun z => absurd z (by decide), fun z => absurd z hb⟩
theorem dd_give1 {post : Int32 → St2 → Prop} {x y b : Int32} (h : ¬ (dd_set x ∧ dd_set y)) (H : post (-1) (0, ct, bl, st, sm, kc, pc, ro, a1, a2, a3, a4, a5, a6, a7, a8, a9, a10, a11, a12, a13, a14)) : wpX_give post (0, ct, bl, st, sm, kc, pc, ro, a1, a2, a3, a4, a5, a6, a7, a8, a9, a10, a11, a12, a13, a14) x y b := by
  unfold wpX_give
  by_cases hx : dd_set x
  · exact dd_bad0 hx (br_t rfl (dd_bad1 (fun z => h ⟨hx, z⟩) (br_f (by decide) H)))
  · exact dd_bad1 hx (br_f (by decide) H)
theorem dd_fin_rb {x y b R : Int32} {n k : Nat} {f : Nat → Int32} (hy : dd_set y) (hf : dd_fin x y b R n f) (hd : dd_dj x R) (hk : k < n) : dd_rb y (f k) := by
  by_cases hb : b = 0
  · by_cases h : ∃ c, dd_b (f k) c = true ∧ dd_b y c = true
    · obtain ⟨c, hc, hyc⟩ := h
      have hc6 := hy c hyc
      rcases hf.1 hb c hc6 hyc hd k hk with z | z
      · refine Or.inl (fun e he => ?_)
        have := z e he
        rw [dd_sg (by omega)] at this
        rw [of_decide_eq_true this]
        exact hyc
      · have := z c hc
        rw [dd_sg (by omega), decide_eq_true rfl] at this
        exact absurd this (by decide)
    · exact Or.inr (fun e he => dd_nf (fun z => h ⟨e, he, z⟩))
  · exact hf.2 hb hd k hk
theorem dd_bundles0 {post : Int32 → St2 → Prop} (hx : dd_set (a1 0)) (hy : dd_set (a2 0)) (H : ∀ (bl : Int32) (g4 : Nat → Int32), post 1 (1, 1, bl, st, sm, kc, pc, ro, a1, a2, a3, g4, a5, a6, a7, a8, a9, a10, a11, a12, a13, a14)) : wpX_bundles post (1, ct, bl, st, sm, kc, pc, ro, a1, a2, a3, a4, a5, a6, a7, a8, a9, a10, a11, a12, a13, a14) (a1 0) (a2 0) := by
  unfold wpX_bundles
  refine dd_bad0 hx (br_t rfl (dd_bad0 hy (br_t rfl (nm_r (e' := 1) (by decide) (dd_findBasis_2 (bl := bl) hx (Or.inr rfl) (fun m g hp hf => ?_))))))
  have h6 := dd_pt_le (dd_R_set (a1 0)) hp
  refine Exists.elim (pk_loop (σ := Unit) (fun q i _ => wX_bundles_40 post (a2 0) 1 1 (nI m) st sm kc pc ro a1 a2 a3 g a5 a6 a7 a8 a9 a10 a11 a12 a13 a14 q 1 (nI i)) (fun _ _ => True) m 0 () (by omega) trivial ?_ ?_) (fun q hq => ⟨q, hq⟩)
  · intro q _ _
    exact pk_le m m (fun _ => ⟨dd_nb (Or.inr rfl), H _ _⟩) (fun z => absurd z (by omega))
  · intro q i _ hi _ hw
    refine pk_le m i (fun z => absurd z (by omega)) (fun _ => ⟨pk_in i 6 (by omega), nm_e (br_f (by decide) (br_c (fun _ => nm_r (nI_1 i) (hw () trivial)) (fun h0 => ⟨pk_in i 6 (by omega), br_t ?_ (nm_r (nI_1 i) (hw () trivial))⟩)))⟩)
    rw [nI_clamp (show i < 2 ^ 31 by omega)] at h0 ⊢
    rcases dd_rb_o (dd_fin_rb hy (hf rfl) ((dd_R_dj hx).mpr (fun c h => h)) hi) with z | z
    · exact absurd z h0
    · exact z
theorem dd_bundles1 {post : Int32 → St2 → Prop} {x y : Int32} (h : ¬ (dd_set x ∧ dd_set y)) (H : post 0 (cn, ct, bl, st, sm, kc, pc, ro, a1, a2, a3, a4, a5, a6, a7, a8, a9, a10, a11, a12, a13, a14)) : wpX_bundles post (cn, ct, bl, st, sm, kc, pc, ro, a1, a2, a3, a4, a5, a6, a7, a8, a9, a10, a11, a12, a13, a14) x y := by
  unfold wpX_bundles
  by_cases hx : dd_set x
  · exact dd_bad0 hx (br_t rfl (dd_bad1 (fun z => h ⟨hx, z⟩) (br_f (by decide) H)))
  · exact dd_bad1 hx (br_f (by decide) H)
theorem dd_part0 {post : Int32 → St2 → Prop} {z : Int32} (hz : dd_set z) (H : post 1 (cn, ct, bl, st, sm, kc, 1, ro, a1, a2, a3, a4, a5, a6, a7, a8, upd a9 0 z, a10, a11, a12, a13, a14)) : wpX_part post (cn, ct, bl, st, sm, kc, 0, ro, a1, a2, a3, a4, a5, a6, a7, a8, a9, a10, a11, a12, a13, a14) z := by
  unfold wpX_part
  exact dd_bad0 hz (br_t rfl (br_f (by decide) ⟨pk_in 0 4 (by omega), nm_e (nm_r (e' := 1) (by decide) H)⟩))
theorem dd_part1 {post : Int32 → St2 → Prop} {z : Int32} (hz : ¬ dd_set z) (H : post (-1) (cn, ct, bl, st, sm, kc, pc, ro, a1, a2, a3, a4, a5, a6, a7, a8, a9, a10, a11, a12, a13, a14)) : wpX_part post (cn, ct, bl, st, sm, kc, pc, ro, a1, a2, a3, a4, a5, a6, a7, a8, a9, a10, a11, a12, a13, a14) z := by
  unfold wpX_part
  exact dd_bad1 hz (br_f (by decide) H)
theorem dd_joinAll {post : Int32 → St2 → Prop} (hc : cn = 0 ∨ cn = 1) (H : post 0 (cn, ct, bl, st, sm, kc, 1, ro, a1, a2, a3, a4, a5, a6, a7, a8, a9, a10, a11, a12, a13, a14)) : wpX_joinAll post (cn, ct, bl, st, sm, kc, 1, ro, a1, a2, a3, a4, a5, a6, a7, a8, a9, a10, a11, a12, a13, a14) := by
  rcases hc with e | e
  · subst e
    exact ⟨1, br_t (by decide) ⟨dd_nb (Or.inl rfl), H⟩⟩
  · subst e
    have E : wX_joinAll_4 post 1 0 1 1 ct bl st sm kc 1 ro a1 a2 a3 a4 a5 a6 a7 a8 a9 a10 a11 a12 a13 a14 := br_t (by decide) ⟨dd_nb (Or.inl rfl), H⟩
    refine ⟨2, br_f (by decide) ?_⟩
    refine Exists.elim (pk_loop (σ := Unit) (fun q i _ => wX_joinAll_14 post (wX_joinAll_4 post 1) (nI 0) q 0 (nI i) 1 ct bl st sm kc 1 ro a1 a2 a3 a4 a5 a6 a7 a8 a9 a10 a11 a12 a13 a14) (fun _ _ => True) 16 0 () (by omega) trivial ?_ ?_) (fun q hq => ⟨q, hq⟩)
    · intro q _ _
      exact pk_le 16 16 (fun _ => nm_r (e' := 1) (by decide) E) (fun z => absurd z (by omega))
    · intro q i _ hi _ hw
      have K : wX_joinAll_71 post (wX_joinAll_4 post 1) (wX_joinAll_14 post (wX_joinAll_4 post 1) (nI 0) q) 0 (nI 0) (nI i) 1 ct bl st sm kc 1 ro a1 a2 a3 a4 a5 a6 a7 a8 a9 a10 a11 a12 a13 a14 := br_t rfl (br_t rfl (nm_r (nI_1 i) (hw () trivial)))
      exact pk_le 16 i (fun z => absurd z (by omega)) (fun _ => ⟨pk_in 0 10 (by omega), br_c (fun _ => ⟨by decide, nm_r (pk_div (a := i) (d := 4) (by omega) (by omega) (by omega)) ⟨by decide, nm_r (pk_rem (a := i) (d := 4) (by omega) (by omega) (by omega)) (pk_le (i % 4) (i / 4) (fun _ => K) (fun h => pk_le 1 (i % 4) (fun _ => K) (fun z => absurd z (by omega))))⟩⟩) (fun _ => nm_r (e' := 1) (by decide) E)⟩)
theorem dd_e6 (i : Nat) : (6 : Int32) * nI 0 + nI i = nI i := by
  rw [show (6 : Int32) * nI 0 = nI 0 from by decide, nI_add, Nat.zero_add]
theorem dd_loss100 {post : Int32 → St2 → Prop} (H1 : (∀ j, j < 6 → a10 j = 0) → post 1 (cn, ct, bl, st, sm, kc, 1, ro, a1, a2, a3, a4, a5, a6, a7, a8, a9, a10, a11, a12, a13, a14)) (H0 : ¬ (∀ j, j < 6 → a10 j = 0) → post 0 (cn, ct, bl, st, sm, kc, 1, ro, a1, a2, a3, a4, a5, a6, a7, a8, a9, a10, a11, a12, a13, a14)) : ∃ q, wX_lossless_100 post cn ct bl st sm kc 1 ro a1 a2 a3 a4 a5 a6 a7 a8 a9 a10 a11 a12 a13 a14 q 0 0 := by
  refine ⟨2, br_f (by decide) ?_⟩
  refine Exists.elim (pk_loop (σ := Int32) (fun q i k => wX_lossless_114 post (wX_lossless_100 post cn ct bl st sm kc 1 ro a1 a2 a3 a4 a5 a6 a7 a8 a9 a10 a11 a12 a13 a14 1) 0 (nI 0) cn ct bl st sm kc 1 ro a1 a2 a3 a4 a5 a6 a7 a8 a9 a10 a11 a12 a13 a14 q k (nI i)) (fun i k => (k = 1 ∧ ∀ j, j < i → a10 j = 0) ∨ (k = 0 ∧ ∃ j, j < i ∧ ¬ a10 j = 0)) 6 0 1 (by omega) (Or.inl ⟨rfl, fun j hj => absurd hj (by omega)⟩) ?_ ?_) (fun q hq => ⟨q, hq⟩)
  · intro q k hk
    refine pk_le 6 6 (fun _ => br_t rfl (br_c (fun h => nm_r (e' := 1) (by decide) (br_t (by decide) ⟨dd_nb (Or.inl rfl), H0 ?_⟩)) (fun h => nm_r (e' := 1) (by decide) (br_t (by decide) ⟨dd_nb (Or.inr rfl), H1 ?_⟩)))) (fun z => absurd z (by omega))
    · rcases hk with z | z
      · rw [z.1] at h
        exact absurd h (by decide)
      · obtain ⟨_, j, hj, hn⟩ := z
        exact fun g => hn (g j hj)
    · rcases hk with z | z
      · exact z.2
      · exact absurd z.1 h
  · intro q i k hi hk hw
    refine pk_le 6 i (fun z => absurd z (by omega)) (fun _ => br_c (fun h => nm_r (nI_1 i) (hw 0 (Or.inr ⟨rfl, ?_⟩))) (fun h => ⟨pk_in i 24 (by omega) (dd_e6 i), br_c (fun g => nm_r (nI_1 i) (hw 1 (Or.inl ⟨rfl, ?_⟩))) (fun g => nm_r (nI_1 i) (hw 0 (Or.inr ⟨rfl, i, by omega, ?_⟩)))⟩))
    · rcases hk with z | z
      · rw [z.1] at h
        exact absurd h (by decide)
      · obtain ⟨_, j, hj, hn⟩ := z
        exact ⟨j, by omega, hn⟩
    · rw [dd_e6, nI_clamp (by omega)] at g
      rcases hk with z | z
      · exact lt_s z.2 g
      · exact absurd z.1 h
    · rw [dd_e6, nI_clamp (by omega)] at g
      exact g
theorem dd_loss1 {post : Int32 → St2 → Prop} (hc : cn = 0 ∨ cn = 1) (hz : dd_set (a9 0)) (H : ∀ (g10 : Nat → Int32) (r : Int32), (a9 0 = 63 → r = 1) → (¬ a9 0 = 63 → r = 0) → post r (cn, ct, bl, st, sm, kc, 1, ro, a1, a2, a3, a4, a5, a6, a7, a8, a9, g10, a11, a12, a13, a14)) : wpX_lossless post (cn, ct, bl, st, sm, kc, 1, ro, a1, a2, a3, a4, a5, a6, a7, a8, a9, a10, a11, a12, a13, a14) := by
  refine br_f (by decide) ⟨2, br_f (by decide) ?_⟩
  refine Exists.elim (pk_loop (σ := Nat → Int32) (fun q i g => wX_lossless_21 post (wX_lossless_11 post cn ct bl st sm kc 1 ro 1) (nI 0) cn ct bl st sm kc 1 ro q (nI i) a1 a2 a3 a4 a5 a6 a7 a8 a9 g a11 a12 a13 a14) (fun i g => ∀ j, j < i → (g j = 0 ↔ dd_b (a9 0) j = true)) 6 0 a10 (by omega) (fun j hj => absurd hj (by omega)) ?_ ?_) (fun q hq => ⟨q, hq⟩)
  · intro q g hg
    have key : (∀ j, j < 6 → g j = 0) ↔ a9 0 = 63 := by
      constructor
      · intro h
        refine dd_sb_eq (dd_sb_63 hz) (fun j hj => ?_)
        have := dd_set_63 j hj
        exact (hg j this).mp (h j this)
      · intro h j hj
        refine (hg j hj).mpr ?_
        rw [h, dd_63]
        exact decide_eq_true hj
    refine pk_le 6 6 (fun _ => nm_r (e' := 1) (by decide) (br_t (by decide) ⟨2, br_f (by decide) (br_f (by decide) (dd_joinAll hc (nm_r (e' := 1) (by decide) (br_f (by decide) (br_t rfl (dd_loss100 (fun h => H g 1 (fun _ => rfl) (fun z => absurd (key.mp h) z)) (fun h => H g 0 (fun z => absurd (key.mpr z) h) (fun _ => rfl))))))))⟩)) (fun z => absurd z (by omega))
  · intro q i g hi hg hw
    refine pk_le 6 i (fun z => absurd z (by omega)) (fun _ => ⟨pk_in 0 4 (by omega), ?_⟩)
    have U : ∀ v : Int32, (v = 0 ↔ dd_b (a9 0) i = true) → ∀ j, j < i + 1 → (upd g i v j = 0 ↔ dd_b (a9 0) j = true) := by
      intro v hv j hj
      by_cases e : j = i
      · rw [e, pk_us]; exact hv
      · rw [pk_un e]; exact hg j (by omega)
    have ei : ((6 : Int32) * nI 0 + nI i).toNatClampNeg = i := by rw [dd_e6, nI_clamp (by omega)]
    cases hb : dd_b (a9 0) i
    · refine br_f (dd_t0 (by omega) hb) ⟨pk_in i 24 (by omega) (dd_e6 i), nm_r (e' := upd g i 1) ?_ (nm_r (nI_1 i) (hw _ (U 1 ?_)))⟩
      · rw [ei]; rfl
      · rw [hb]
        exact ⟨fun z => absurd z (by decide), fun z => absurd z (by decide)⟩
    · refine br_t (dd_t1 (by omega) hb) ⟨pk_in i 24 (by omega) (dd_e6 i), nm_r (e' := upd g i 0) ?_ (nm_r (nI_1 i) (hw _ (U 0 ?_)))⟩
      · rw [ei]
      · rw [hb]
        exact ⟨fun _ => rfl, fun _ => rfl⟩
theorem dd_loss0 {post : Int32 → St2 → Prop} (H : post 0 (cn, ct, bl, st, sm, kc, 0, ro, a1, a2, a3, a4, a5, a6, a7, a8, a9, a10, a11, a12, a13, a14)) : wpX_lossless post (cn, ct, bl, st, sm, kc, 0, ro, a1, a2, a3, a4, a5, a6, a7, a8, a9, a10, a11, a12, a13, a14) := br_t rfl H
theorem dd_write {post : Int32 → St2 → Prop} {r c x : Int32} (H : post (-1) (cn, ct, bl, st, sm, kc, pc, 0, a1, a2, a3, a4, a5, a6, a7, a8, a9, a10, a11, a12, a13, a14)) : wpX_write post (cn, ct, bl, st, sm, kc, pc, 0, a1, a2, a3, a4, a5, a6, a7, a8, a9, a10, a11, a12, a13, a14) r c x :=
  br_c (fun _ => H) (fun h => br_t (Int32.not_lt.mp h) H)
end
end
section
/-! the law's own check, its calls, and what is owed -/
theorem dd_t157 {post : Int32 → St0 → Prop} {mc ms kc ks : Nat} {x1 x3 x6 x7 x8 x9 x10 x14 x15 o : Int32}
    (h6 : x6 = if x15 = 0 then -1 else 0) (h7 : x7 = if x14 = 0 then -1 else if o = 0 then x3 else x3 ||| x1) (h8 : x8 = x15) (h9 : x9 = if x14 = 0 then -1 else 1) (h10 : x10 = if x3 = 63 then 1 else 0) (H : post 1 ()) :
    wL_lawOf_157 post mc ms x1 x3 x6 x7 x8 x9 x10 (-1) x14 x15 o kc ks := by
  have T219 : ∀ a : Int32, x9 = a → wL_lawOf_219 post mc ms x3 x10 (-1) a x9 kc ks := by
    intro a ha
    refine br_t ha (br_c (fun h => br_t ?_ (br_t rfl H)) (fun h => br_t ?_ (br_t rfl H)))
    · rw [h10, if_pos h]
    · rw [h10, if_neg h]
  have T197 : ∀ a : Int32, x7 = a → wL_lawOf_197 post mc ms x3 x8 x9 x10 (-1) x14 x15 a x7 kc ks := by
    intro a ha
    refine br_t ha (br_t h8 (br_c (fun h => T219 _ ?_) (fun h => T219 _ ?_)))
    · rw [h9, if_pos h]
    · rw [h9, if_neg h]
  have T171 : ∀ a : Int32, x6 = a → wL_lawOf_171 post mc ms x1 x3 x7 x8 x9 x10 (-1) x14 x15 o a x6 kc ks := by
    intro a ha
    refine br_t ha (br_c (fun h => T197 _ ?_) (fun h => br_c (fun g => T197 _ ?_) (fun g => T197 _ ?_)))
    · rw [h7, if_pos h]
    · rw [h7, if_neg h, if_pos g]
    · rw [h7, if_neg h, if_neg g]
  refine br_c (fun h => T171 _ ?_) (fun h => T171 _ ?_)
  · rw [h6, if_pos h]
  · rw [h6, if_neg h]
theorem dd_t128 {post : Int32 → St0 → Prop} {mc ms kc ks : Nat} {x0 x1 x2 x3 x6 x7 x8 x9 x10 x14 x15 : Int32}
    (h6 : x6 = if x15 = 0 then -1 else 0) (h7 : x7 = if x14 = 0 then -1 else if ¬ x15 = 0 ∧ x2 = 0 ∧ (x0 &&& (x3 ^^^ (-1))) = 0 then x3 ||| x1 else x3) (h8 : x8 = x15) (h9 : x9 = if x14 = 0 then -1 else 1) (h10 : x10 = if x3 = 63 then 1 else 0) (H : post 1 ()) :
    wL_lawOf_128 post mc ms x0 x1 x2 x3 x6 x7 x8 x9 x10 (-1) x14 x15 kc ks := by
  have T156 : (x14 = 0 ∨ ¬ (¬ x15 = 0 ∧ x2 = 0 ∧ (x0 &&& (x3 ^^^ (-1))) = 0)) → wL_lawOf_156 post mc ms x1 x3 x6 x7 x8 x9 x10 (-1) x14 x15 kc ks := by
    intro hn
    refine dd_t157 h6 ?_ h8 h9 h10 H
    by_cases h14 : x14 = 0
    · rw [h7, if_pos h14, if_pos h14]
    · rw [h7, if_neg h14, if_neg h14, if_pos rfl]
      rcases hn with z | z
      · exact absurd z h14
      · rw [if_neg z]
  refine br_c (fun h => T156 (Or.inr (fun z => z.1 h))) (fun h => br_c (fun g => br_c (fun k => T156 (Or.inl k)) (fun k => br_c (fun l => ?_) (fun l => T156 (Or.inr (fun z => l z.2.2))))) (fun g => T156 (Or.inr (fun z => g z.2.1))))
  refine dd_t157 h6 ?_ h8 h9 h10 H
  rw [h7, if_neg k, if_neg k, if_pos ⟨h, g, l⟩, if_neg (by decide)]
theorem dd_rgc {z : Int32} {A B : Prop} (h1 : ¬ dd_set z → A) (h0 : dd_set z → B) : (z < 0 → A) ∧ (¬ z < 0 → ((63 < z → A) ∧ (¬ 63 < z → B))) := by
  rcases dd_rng z with g | g
  · rcases g.2.1 with e | e
    · exact br_t e (h1 g.1)
    · exact br_f e.1 (br_t e.2.1 (h1 g.1))
  · exact br_f g.2.1 (br_f g.2.2.1 (h0 g.1))
/-- the check at the law's end, by what the calls have answered -/
theorem dd_tail {post : Int32 → St0 → Prop} {mc ms kc ks : Nat} {x y b z gv cl bu pa lo : Int32}
    (hp : dd_set x → dd_set y → gv = 0 ∧ bu = 1) (hn : ¬ (dd_set x ∧ dd_set y) → gv = -1 ∧ bu = 0)
    (hz : dd_set z → pa = 1) (hz' : ¬ dd_set z → pa = -1 ∧ cl = -1) (hlo : z = 63 → lo = 1) (hlo' : ¬ z = 63 → lo = 0)
    (hcl : dd_set z → dd_set x → dd_set y → cl = if b = 0 ∧ (x &&& (z ^^^ (-1))) = 0 then z ||| y else z) (hcl' : dd_set z → ¬ (dd_set x ∧ dd_set y) → cl = z) (H : post 1 ()) :
    (x < 0 → wL_lawOf_76 post mc ms x y b z gv cl bu pa lo (-1) kc ks) ∧ (¬ x < 0 → ((63 < x → wL_lawOf_76 post mc ms x y b z gv cl bu pa lo (-1) kc ks) ∧ (¬ 63 < x → wL_lawOf_77 post mc ms x y b z gv cl bu pa lo (-1) 1 kc ks))) := by
  have e10 : lo = if z = 63 then 1 else 0 := by
    by_cases h : z = 63
    · rw [if_pos h, hlo h]
    · rw [if_neg h, hlo' h]
  have T0 : ∀ f : Int32, (f = 0 ∧ ¬ dd_set z ∨ f = 1 ∧ dd_set z) → ¬ (dd_set x ∧ dd_set y) → wL_lawOf_128 post mc ms x y b z gv cl bu pa lo (-1) f 0 kc ks := by
    intro f hf h
    refine dd_t128 ?_ ?_ (hn h).2 ?_ e10 H
    · rw [(hn h).1]; rfl
    · rcases hf with ⟨e, g⟩ | ⟨e, g⟩
      · rw [e, (hz' g).2]; rfl
      · rw [e, hcl' g h, if_neg (by decide), if_neg (fun k => k.1 rfl)]
    · rcases hf with ⟨e, g⟩ | ⟨e, g⟩
      · rw [e, (hz' g).1]; rfl
      · rw [e, hz g]; rfl
  have T1 : ∀ f : Int32, (f = 0 ∧ ¬ dd_set z ∨ f = 1 ∧ dd_set z) → dd_set x → dd_set y → wL_lawOf_128 post mc ms x y b z gv cl bu pa lo (-1) f 1 kc ks := by
    intro f hf hx hy
    refine dd_t128 ?_ ?_ (hp hx hy).2 ?_ e10 H
    · rw [(hp hx hy).1]; rfl
    · rcases hf with ⟨e, g⟩ | ⟨e, g⟩
      · rw [e, (hz' g).2]; rfl
      · rw [e, hcl g hx hy, if_neg (show ¬ (1 : Int32) = 0 by decide)]
        by_cases k : b = 0 ∧ (x &&& (z ^^^ (-1))) = 0
        · rw [if_pos k, if_pos ⟨by decide, k.1, k.2⟩]
        · rw [if_neg k, if_neg (fun l => k ⟨l.2.1, l.2.2⟩)]
    · rcases hf with ⟨e, g⟩ | ⟨e, g⟩
      · rw [e, (hz' g).1]; rfl
      · rw [e, hz g]; rfl
  have T111 : ∀ f d e : Int32, (f = 0 ∧ ¬ dd_set z ∨ f = 1 ∧ dd_set z) → (d = 0 ∧ ¬ dd_set x ∨ d = 1 ∧ dd_set x) → (e = 0 ∧ ¬ dd_set y ∨ e = 1 ∧ dd_set y) → wL_lawOf_111 post mc ms x y b z gv cl bu pa lo (-1) d e f kc ks := by
    intro f d e hf hd he
    rcases hd with ⟨d0, hx⟩ | ⟨d1, hx⟩
    · exact br_t d0 (T0 f hf (fun k => hx k.1))
    · refine br_f (by rw [d1]; decide) ?_
      rcases he with ⟨e0, hy⟩ | ⟨e1, hy⟩
      · exact br_t e0 (T0 f hf (fun k => hy k.2))
      · exact br_f (by rw [e1]; decide) (T1 f hf hx hy)
  have T94 : ∀ d e : Int32, (d = 0 ∧ ¬ dd_set x ∨ d = 1 ∧ dd_set x) → (e = 0 ∧ ¬ dd_set y ∨ e = 1 ∧ dd_set y) → wL_lawOf_94 post mc ms x y b z gv cl bu pa lo (-1) d e kc ks :=
    fun d e hd he => dd_rgc (fun k => T111 0 d e (Or.inl ⟨rfl, k⟩) hd he) (fun k => T111 1 d e (Or.inr ⟨rfl, k⟩) hd he)
  have T77 : ∀ d : Int32, (d = 0 ∧ ¬ dd_set x ∨ d = 1 ∧ dd_set x) → wL_lawOf_77 post mc ms x y b z gv cl bu pa lo (-1) d kc ks :=
    fun d hd => dd_rgc (fun k => T94 d 0 hd (Or.inl ⟨rfl, k⟩)) (fun k => T94 d 1 hd (Or.inr ⟨rfl, k⟩))
  exact dd_rgc (fun k => T77 0 (Or.inl ⟨rfl, k⟩)) (fun k => T77 1 (Or.inr ⟨rfl, k⟩))
theorem dd_init {post : St2 → Prop} (H : post (0, 0, 0, 0, 0, 0, 0, 0, (fun _ => 0), (fun _ => 0), (fun _ => 0), (fun _ => 0), (fun _ => 0), (fun _ => 0), (fun _ => 0), (fun _ => 0), (fun _ => 0), (fun _ => 0), (fun _ => 0), (fun _ => 0), (fun _ => 0), (fun _ => 0))) : wpX_init post 14 775 (0, 0, 0, 0, 0, 0, 0, 0) :=
  ⟨by decide, by decide, by decide, by decide, by decide, by decide, by decide, by decide, by decide, by decide, by decide, by decide, by decide, by decide, by decide, by decide, by decide, by decide, by decide, by decide, by decide, by decide, by decide, by decide, by decide, by decide, by decide, by decide, H⟩
theorem dd_lawOf (x y b z c : Int32) : wpL_lawOf (fun r _ => r = 1) 402 6432 () x y b z c := by
  refine ⟨by decide, by decide, 14, 775, by decide, by decide, dd_init ?_⟩
  by_cases hp : dd_set x ∧ dd_set y
  · refine dd_give0 hp.1 hp.2 (fun v hv => ?_)
    by_cases hz : dd_set z
    · refine dd_closure0 hz (Or.inr rfl) hp.1 hp.2 rfl (fun bl sm g4 g5 g6 g7 g8 => ?_)
      refine dd_bundles0 (a1 := upd (fun _ => 0) 0 x) (a2 := upd (fun _ => 0) 0 y) (bl := bl) (a4 := g4) hp.1 hp.2 (fun bl' g4' => ?_)
      refine dd_part0 hz (dd_loss1 (Or.inr rfl) hz (fun g10 lo h1 h0 => dd_write ?_))
      refine dd_tail (fun _ _ => ⟨rfl, rfl⟩) (fun k => absurd hp k) (fun _ => rfl) (fun k => absurd hz k) h1 h0 (fun _ _ _ => ?_) (fun _ k => absurd hp k) rfl
      show dd_cl 1 x y v z = _
      unfold dd_cl
      by_cases k : b = 0 ∧ (x &&& (z ^^^ (-1))) = 0
      · rw [if_pos k, if_pos ⟨rfl, hv.mpr k.1, k.2⟩]
      · rw [if_neg k, if_neg (fun l => k ⟨hv.mp l.2.1, l.2.2⟩)]
    · refine dd_closure1 hz ?_
      refine dd_bundles0 (a1 := upd (fun _ => 0) 0 x) (a2 := upd (fun _ => 0) 0 y) (bl := 0) (a4 := fun _ => 0) hp.1 hp.2 (fun bl' g4' => ?_)
      refine dd_part1 hz (dd_loss0 (dd_write ?_))
      exact dd_tail (fun _ _ => ⟨rfl, rfl⟩) (fun k => absurd hp k) (fun k => absurd k hz) (fun _ => ⟨rfl, rfl⟩) (fun k => absurd (by rw [k]; exact dd_set_63) hz) (fun _ => rfl) (fun k => absurd k hz) (fun k => absurd k hz) rfl
  · refine dd_give1 hp ?_
    by_cases hz : dd_set z
    · refine dd_closure0 hz (Or.inl rfl) dd_set_0 dd_set_0 rfl (fun bl sm g4 g5 g6 g7 g8 => ?_)
      refine dd_bundles1 hp ?_
      refine dd_part0 hz (dd_loss1 (Or.inl rfl) hz (fun g10 lo h1 h0 => dd_write ?_))
      refine dd_tail (fun k l => absurd ⟨k, l⟩ hp) (fun _ => ⟨rfl, rfl⟩) (fun _ => rfl) (fun k => absurd hz k) h1 h0 (fun _ k l => absurd ⟨k, l⟩ hp) (fun _ _ => ?_) rfl
      unfold dd_cl
      rw [if_neg (fun l => absurd l.1 (by decide))]
    · refine dd_closure1 hz (dd_bundles1 hp (dd_part1 hz (dd_loss0 (dd_write ?_))))
      exact dd_tail (fun k l => absurd ⟨k, l⟩ hp) (fun _ => ⟨rfl, rfl⟩) (fun k => absurd k hz) (fun _ => ⟨rfl, rfl⟩) (fun k => absurd (by rw [k]; exact dd_set_63) hz) (fun _ => rfl) (fun k => absurd k hz) (fun k => absurd k hz) rfl
theorem dd_cell {post : Int32 → Prop} {L : Nat} {xs : Nat → Int32} (hL : L ≤ 5) (k : Nat) (hk : k < 5) (H : ∀ r, post r) : wpL_cellAt post L xs () (nI k) :=
  pk_le L k (fun _ => H 0) (fun h => ⟨pk_in k L h, H _⟩)
end
section
theorem i_vc (xs : Nat → Int32) (L : Nat) (hL : L ≤ 5) : wpL_law (fun r => r = 1) L xs := by
  unfold wpL_law
  exact dd_cell hL 0 (by omega) (fun r1 => dd_cell hL 1 (by omega) (fun r2 => dd_cell hL 2 (by omega) (fun r3 => dd_cell hL 3 (by omega) (fun r4 => dd_cell hL 4 (by omega) (fun r5 => ⟨402, 6432, by decide, by decide, dd_lawOf r1 r2 r3 r4 r5⟩)))))
end
