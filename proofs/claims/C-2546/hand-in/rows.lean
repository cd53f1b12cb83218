section
/-! rows of the kit (kit/rows), pasted -/
theorem pk_us {f : Nat → Int32} {k : Nat} {x : Int32} : upd f k x k = x := if_pos rfl
theorem pk_un {f : Nat → Int32} {k j : Nat} {x : Int32} (h : j ≠ k) : upd f k x j = f j := if_neg h
theorem pk_sub {a b : Nat} (h : b ≤ a) : nI a - nI b = nI (a - b) := by
  obtain ⟨c, rfl⟩ : ∃ c, a = c + b := ⟨a - b, by omega⟩
  rw [← nI_add, Int32.add_sub_cancel, Nat.add_sub_cancel]
theorem pk_m1 (n : Nat) : nI (n + 1) + (-1) = nI n := by
  rw [← nI_1, Int32.add_assoc, show (1 : Int32) + (-1) = 0 from rfl, Int32.add_zero]
theorem pk_mul (a b : Nat) : nI a * nI b = nI (a * b) := (Int32.ofNat_mul a b).symm
theorem pk_div {a d : Nat} (ha : a < 2 ^ 31) (h0 : 0 < d) (hd : d < 2 ^ 31) : nI a / nI d = nI (a / d) := by
  apply Int32.toInt_inj.mp
  rw [lg_idiv_nonneg (by rw [nI_toInt ha]; omega) (by rw [nI_toInt hd]; omega), nI_toInt ha, nI_toInt hd, nI_toInt (Nat.lt_of_le_of_lt (Nat.div_le_self a d) ha)]
  first | rfl | exact (Int.natCast_ediv _ _).symm
theorem pk_rem {a d : Nat} (ha : a < 2 ^ 31) (h0 : 0 < d) (hd : d < 2 ^ 31) : nI a - nI a / nI d * nI d = nI (a % d) := by
  rw [pk_div ha h0 hd, pk_mul, pk_sub (Nat.div_mul_le_self a d)]
  exact congrArg nI (by have := Nat.div_add_mod' a d; omega)
theorem pk_ix (x : Int32) {n : Nat} (hn : n < 2 ^ 31) : x < 0 ∨ nI n ≤ x ∨ ∃ j : Nat, j < n ∧ x = nI j := by
  by_cases h : x < 0
  · exact Or.inl h
  · obtain ⟨j, hj, rfl⟩ := nI_of h
    by_cases h2 : j < n
    · exact Or.inr (Or.inr ⟨j, h2, rfl⟩)
    · exact Or.inr (Or.inl (nI_le (by omega) hj))
theorem pk_le {x y : Int32} {A B : Prop} (a b : Nat) (f : a ≤ b → A) (g : b < a → B) (hx : x = nI a := by rfl) (hy : y = nI b := by rfl) (ha : a < 2 ^ 31 := by omega) (hb : b < 2 ^ 31 := by omega) : (x ≤ y → A) ∧ (¬ x ≤ y → B) := by
  subst hx hy
  rw [nI_leI ha hb]
  exact ⟨f, fun z => g (by omega)⟩
theorem pk_lt {x y : Int32} {A B : Prop} (a b : Nat) (f : a < b → A) (g : b ≤ a → B) (hx : x = nI a := by rfl) (hy : y = nI b := by rfl) (ha : a < 2 ^ 31 := by omega) (hb : b < 2 ^ 31 := by omega) : (x < y → A) ∧ (¬ x < y → B) := by
  subst hx hy
  rw [nI_ltI ha hb]
  exact ⟨f, fun z => g (by omega)⟩
theorem pk_eq {x y : Int32} {A B : Prop} (a b : Nat) (f : a = b → A) (g : a ≠ b → B) (hx : x = nI a := by rfl) (hy : y = nI b := by rfl) (ha : a < 2 ^ 31 := by omega) (hb : b < 2 ^ 31 := by omega) : (x = y → A) ∧ (¬ x = y → B) := by
  subst hx hy
  rw [nI_eq ha hb]
  exact ⟨f, g⟩
theorem pk_in {x : Int32} (n N : Nat) (h : n < N) (hx : x = nI n := by rfl) (hN : N < 2 ^ 31 := by omega) : vp_in x N := by
  subst hx
  exact vp_in_nI h hN
theorem pk_cl {x : Int32} (n : Nat) (hx : x = nI n := by rfl) (h : n < 2 ^ 31 := by omega) : x.toNatClampNeg = n := by
  subst hx
  exact nI_clamp h
theorem pk_tn {n : Nat} (h : n < 2 ^ 32) : (nI n).toBitVec.toNat = n := Nat.mod_eq_of_lt h
theorem pk_and (x : Int32) {m : Int32} (k : Nat) (hm : m.toBitVec.toNat = 2 ^ k - 1) : x &&& m = nI (x.toBitVec.toNat % 2 ^ k) := by
  apply Int32.toBitVec_inj.mp
  apply BitVec.eq_of_toNat_eq
  rw [Int32.toBitVec_and, BitVec.toNat_and, hm, Nat.and_two_pow_sub_one_eq_mod]
  show _ = (BitVec.ofNat 32 _).toNat
  rw [BitVec.toNat_ofNat]
  exact (Nat.mod_eq_of_lt (Nat.lt_of_le_of_lt (Nat.mod_le _ _) x.toBitVec.isLt)).symm
theorem pk_andN {n : Nat} (h : n < 2 ^ 32) {m : Int32} (k : Nat) (hm : m.toBitVec.toNat = 2 ^ k - 1) : nI n &&& m = nI (n % 2 ^ k) := by
  rw [pk_and _ k hm, pk_tn h]
theorem pk_andE (x : Int32) {m : Int32} (k : Nat) (hm : m.toBitVec.toNat = 2 ^ k - 1) : ∃ j : Nat, j < 2 ^ k ∧ x &&& m = nI j := ⟨_, Nat.mod_lt _ (Nat.two_pow_pos k), pk_and x k hm⟩
theorem pk_andIn (x : Int32) {m : Int32} (k : Nat) (hm : m.toBitVec.toNat = 2 ^ k - 1) (hk : k ≤ 30) : vp_in (x &&& m) (2 ^ k) := by
  obtain ⟨j, hj, e⟩ := pk_andE x k hm
  rw [e]
  exact vp_in_nI hj (Nat.lt_of_le_of_lt (Nat.pow_le_pow_right (by decide) hk) (by decide))
theorem pk_shr (a s : Int32) (k : Nat) (hs : (s.toBitVec.smod 32).toNat = k) : (a >>> s).toInt = a.toInt >>> k := by
  show (a.toBitVec.sshiftRight (s.toBitVec.smod 32).toNat).toInt = _
  rw [hs, BitVec.toInt_sshiftRight]
  rfl
theorem pk_shrN {n : Nat} (h : n < 2 ^ 31) (s : Int32) (k : Nat) (hs : (s.toBitVec.smod 32).toNat = k) : nI n >>> s = nI (n / 2 ^ k) := by
  apply Int32.toInt_inj.mp
  have h2 : n / 2 ^ k ≤ n := Nat.div_le_self _ _
  rw [pk_shr _ _ k hs, nI_toInt h, nI_toInt (by omega), Int.shiftRight_eq_div_pow]
  rfl
theorem pk_loop {σ : Type} (W : Nat → Nat → σ → Prop) (I : Nat → σ → Prop) (e i0 : Nat) (s : σ) (hi : i0 ≤ e) (h0 : I i0 s) (hx : ∀ n s, I e s → W (n + 1) e s)
    (hs : ∀ n i s, i < e → I i s → (∀ s', I (i + 1) s' → W n (i + 1) s') → W (n + 1) i s) : ∃ n, W n i0 s :=
  ⟨e + 1, loop_i W I e hx hs (e + 1) i0 s hi (by omega) h0⟩
def bt (x : Int32) (i : Nat) : Bool := x.toBitVec.getLsbD i
theorem b_ext {x y : Int32} (h : ∀ i, i < 32 → bt x i = bt y i) : x = y := Int32.toBitVec_inj.mp (BitVec.eq_of_getLsbD_eq (fun i hi => h i hi))
theorem b_or (x y : Int32) (i : Nat) : bt (x ||| y) i = (bt x i || bt y i) := by unfold bt; rw [Int32.toBitVec_or, BitVec.getLsbD_or]
theorem b_and (x y : Int32) (i : Nat) : bt (x &&& y) i = (bt x i && bt y i) := by unfold bt; rw [Int32.toBitVec_and, BitVec.getLsbD_and]
theorem b_xor (x y : Int32) (i : Nat) : bt (x ^^^ y) i = (bt x i ^^ bt y i) := by unfold bt; rw [Int32.toBitVec_xor, BitVec.getLsbD_xor]
theorem b_big {x : Int32} {i : Nat} (h : 32 ≤ i) : bt x i = false := BitVec.getLsbD_of_ge _ _ h
theorem b_m1 : ∀ i, i < 32 → bt (-1) i = true := by decide +kernel
theorem b_0 (i : Nat) : bt 0 i = false := BitVec.getLsbD_zero
theorem s_l : ∀ n, n < 32 → ((nI n &&& 31).toBitVec.smod 32).toNat = n := by decide +kernel
theorem b_shl (n : Nat) (hn : n < 32) (x : Int32) {i : Nat} (hi : i < 32) : bt (x <<< (nI n &&& 31)) i = (decide (n ≤ i) && bt x (i - n)) := by
  unfold bt
  rw [Int32.toBitVec_shiftLeft]
  show (x.toBitVec <<< ((nI n &&& 31).toBitVec.smod 32).toNat).getLsbD i = _
  rw [s_l n hn, BitVec.getLsbD_shiftLeft]
  rcases Nat.lt_or_ge i n with h | h
  · simp [h, Nat.not_le.mpr h]
  · simp [hi, h, Nat.not_lt.mpr h]
theorem b_sshr (n : Nat) (hn : n < 32) (x : Int32) {i : Nat} (hi : i < 32) : bt (x >>> (nI n &&& 31)) i = if n + i < 32 then bt x (n + i) else bt x 31 := by
  unfold bt
  rw [Int32.toBitVec_shiftRight]
  show (x.toBitVec.sshiftRight ((nI n &&& 31).toBitVec.smod 32).toNat).getLsbD i = _
  rw [s_l n hn, BitVec.getLsbD_sshiftRight, BitVec.msb_eq_getLsbD_last]
  simp [hi]
theorem nf_sh : ∀ l, l < 32 → ((1 : Int32) <<< (nI l &&& 31)).toBitVec = BitVec.twoPow 32 l := by decide +kernel
end
section
/-! parity arenas: nodes a, rank rk, a monotone step st; certificates; the two moves of the solving by turning -/
section
variable {α : Type}
def pg_dual (st : (α → Prop) → α → Prop) : (α → Prop) → α → Prop := fun S x => ¬ st (fun y => ¬ S y) x
def pg_mono (st : (α → Prop) → α → Prop) : Prop := ∀ S T : α → Prop, (∀ y, S y → T y) → ∀ x, st S x → st T x
theorem pg_nn (S : α → Prop) : (fun y => ¬ ¬ S y) = S := by
  funext y
  exact propext Classical.not_not
theorem pg_dd (st : (α → Prop) → α → Prop) : pg_dual (pg_dual st) = st := by
  funext S x
  show (¬ ¬ st (fun y => ¬ ¬ S y) x) = st S x
  rw [pg_nn]
  exact propext Classical.not_not
theorem pg_bb (bad : Nat → Bool) : (fun s => !(!bad s)) = bad := by
  funext s
  exact Bool.not_not _
theorem pg_dmono {st : (α → Prop) → α → Prop} (h : pg_mono st) : pg_mono (pg_dual st) :=
  fun S T hST x hx hn => hx (h _ _ (fun y hy hs => hy (hST y hs)) x hn)
theorem pg_meet {st : (α → Prop) → α → Prop} (hm : pg_mono st) {P Q : α → Prop} {x : α} (hP : st P x) (hQ : pg_dual st Q x) : ∃ y, P y ∧ Q y :=
  Classical.byContradiction fun h => hQ (hm _ _ (fun y hp hq => h ⟨y, hp, hq⟩) x hP)
def pg_dec (rk : α → Nat) (bad : Nat → Bool) (r : Nat) (m : Nat → α → Nat) (x y : α) : Prop :=
  (∀ s, rk x ≤ s → s < r → m s y ≤ m s x) ∧ (bad (rk x) = true → m (rk x) y < m (rk x) x)
def pg_G (rk : α → Nat) (st : (α → Prop) → α → Prop) (bad : Nat → Bool) (r : Nat) (W : α → Prop) (m : Nat → α → Nat) : Prop :=
  ∀ x, W x → rk x < r → st (fun y => W y ∧ pg_dec rk bad r m x y) x
theorem pg_lex (c : Nat → α → Nat) : ∀ (r : Nat) (S : α → Prop),
    (∀ x, S x → ∃ y, S y ∧ ∃ t, t < r ∧ (∀ s, t ≤ s → s < r → c s y ≤ c s x) ∧ c t y < c t x) → ∀ x, ¬ S x := by
  intro r
  induction r with
  | zero =>
    intro S h x hx
    obtain ⟨y, _, t, ht, _⟩ := h x hx
    exact absurd ht (Nat.not_lt_zero t)
  | succ r ih =>
    intro S h x hx
    have key : ∀ n x, S x → c r x = n → False := by
      intro n
      induction n using Nat.strongRecOn with
      | _ n ihn =>
        intro x hx hn
        refine ih (fun z => S z ∧ c r z = n) ?_ x ⟨hx, hn⟩
        intro z hz
        obtain ⟨y, hy, t, ht, hle, hlt⟩ := h z hz.1
        have h1 : c r y ≤ c r z := hle r (Nat.lt_succ_iff.mp ht) (Nat.lt_succ_self r)
        have h2 : ¬ c r y < n := fun hh => ihn (c r y) hh y hy rfl
        have h4 : c r z = n := hz.2
        have h3 : c r y = n := by clear ih ihn h hle; omega
        refine ⟨y, ⟨hy, h3⟩, t, ?_, fun s h1 h2 => hle s h1 (Nat.lt_succ_of_lt h2), hlt⟩
        rcases Nat.lt_or_ge t r with h5 | h5
        · exact h5
        · have e : t = r := Nat.le_antisymm (Nat.lt_succ_iff.mp ht) h5
          rw [e] at hlt
          clear ih ihn h hle
          omega
    exact key _ x hx rfl
theorem pg_disj {rk : α → Nat} {st : (α → Prop) → α → Prop} (hm : pg_mono st) {bad : Nat → Bool} {r : Nat} {W0 W1 : α → Prop} {m0 m1 : Nat → α → Nat}
    (h0 : pg_G rk st bad r W0 m0) (h1 : pg_G rk (pg_dual st) (fun s => !bad s) r W1 m1)
    (ht : ∀ x, W0 x → W1 x → r ≤ rk x → False) : ∀ x, W0 x → W1 x → False := by
  intro x hx0 hx1
  refine pg_lex (fun s x => if bad s = true then m0 s x else m1 s x) r (fun x => W0 x ∧ W1 x) ?_ x ⟨hx0, hx1⟩
  intro x hx
  have hr : rk x < r := Nat.lt_of_not_le (fun h => ht x hx.1 hx.2 h)
  obtain ⟨y, y0, y1⟩ := pg_meet hm (h0 x hx.1 hr) (h1 x hx.2 hr)
  refine ⟨y, ⟨y0.1, y1.1⟩, rk x, hr, ?_, ?_⟩
  · intro s h1 h2
    split
    · exact y0.2.1 s h1 h2
    · exact y1.2.1 s h1 h2
  · split
    · next h => exact y0.2.2 h
    · next h => exact y1.2.2 (by simp [h])
def pg_C (rk : α → Nat) (st : (α → Prop) → α → Prop) (bad : Nat → Bool) (r : Nat) (Z : α → Prop) : Prop :=
  ∃ (m : Nat → α → Nat) (B : Nat), (∀ s x, m s x ≤ B) ∧ pg_G rk st bad r Z m
def pg_Sv (rk : α → Nat) (st : (α → Prop) → α → Prop) (bad : Nat → Bool) (r : Nat) (Z : α → Prop) : Prop :=
  pg_C rk st bad r Z ∧ pg_C rk (pg_dual st) (fun s => !bad s) r (fun x => ¬ Z x)
def pg_Ap (rk : α → Nat) (st : (α → Prop) → α → Prop) (bad : Nat → Bool) (r : Nat) (Z : α → Prop) : Prop :=
  ∃ (W : α → Prop) (m : Nat → α → Nat) (B : Nat), (∀ s x, m s x ≤ B) ∧ pg_G rk st bad (r + 1) W m ∧ (∀ x, W x → r + 1 ≤ rk x → Z x) ∧ (∀ x, rk x = r → Z x → W x)
theorem pg_Sv_dual {rk : α → Nat} {st : (α → Prop) → α → Prop} {bad : Nat → Bool} {r : Nat} {Z : α → Prop} (h : pg_Sv rk st bad r Z) :
    pg_Sv rk (pg_dual st) (fun s => !bad s) r (fun x => ¬ Z x) := by
  refine ⟨h.2, ?_⟩
  rw [pg_dd, pg_bb, pg_nn]
  exact h.1
theorem pg_Sv_undual {rk : α → Nat} {st : (α → Prop) → α → Prop} {bad : Nat → Bool} {r : Nat} {Z : α → Prop}
    (h : pg_Sv rk (pg_dual st) (fun s => !bad s) r (fun x => ¬ Z x)) : pg_Sv rk st bad r Z := by
  have := pg_Sv_dual h
  rw [pg_dd, pg_bb, pg_nn] at this
  exact this
theorem pg_unique {rk : α → Nat} {st : (α → Prop) → α → Prop} (hm : pg_mono st) {bad : Nat → Bool} {r : Nat} {Z Z' : α → Prop}
    (h : pg_Sv rk st bad r Z) (h' : pg_Sv rk st bad r Z') (hu : ∀ x, r ≤ rk x → Z x → Z' x) : ∀ x, Z x → Z' x := by
  intro x hx
  obtain ⟨m, B, _, hG⟩ := h.1
  obtain ⟨m', B', _, hG'⟩ := h'.2
  exact Classical.byContradiction fun hn => pg_disj hm hG hG' (fun x a b c => b (hu x c a)) x hx hn
theorem pg_close1 {rk : α → Nat} {st : (α → Prop) → α → Prop} (hm : pg_mono st) {bad : Nat → Bool} {r : Nat} {Z : α → Prop} (hb : bad r = true)
    {m1 : Nat → α → Nat} (hG : pg_G rk (pg_dual st) (fun s => !bad s) r (fun x => ¬ Z x) m1) (hc : ∀ x, rk x = r → st Z x → Z x) :
    pg_G rk (pg_dual st) (fun s => !bad s) (r + 1) (fun x => ¬ Z x) (fun s x => if s < r then m1 s x else 0) := by
  intro x hx hr
  rcases Nat.lt_or_ge (rk x) r with h | h
  · refine pg_dmono hm _ _ ?_ x (hG x hx h)
    intro y hy
    refine ⟨hy.1, ?_, ?_⟩
    · intro s h1 h2
      dsimp only
      by_cases hs : s < r
      · rw [if_pos hs, if_pos hs]
        exact hy.2.1 s h1 hs
      · rw [if_neg hs]
        exact Nat.zero_le _
    · intro hb2
      dsimp only
      rw [if_pos h, if_pos h]
      exact hy.2.2 hb2
  · have e : rk x = r := Nat.le_antisymm (Nat.lt_succ_iff.mp hr) h
    intro hst
    refine hx (hc x e ?_)
    refine hm _ _ ?_ x hst
    intro y hy
    refine Classical.byContradiction fun hn => hy ⟨hn, ?_, ?_⟩
    · intro s h1 h2
      have : ¬ s < r := by omega
      dsimp only
      rw [if_neg this]
      exact Nat.zero_le _
    · intro hb2
      have hb3 : (!bad (rk x)) = true := hb2
      rw [e, hb] at hb3
      exact absurd hb3 (by decide)
theorem pg_close {rk : α → Nat} {st : (α → Prop) → α → Prop} (hm : pg_mono st) {bad : Nat → Bool} {r : Nat} {Z : α → Prop} (hb : bad r = true)
    (hS : pg_Sv rk st bad r Z) (hA : pg_Ap rk st bad r Z) (hc : ∀ x, rk x = r → st Z x → Z x) : pg_Sv rk st bad (r + 1) Z := by
  classical
  obtain ⟨⟨m0, B0, hB0, h0⟩, ⟨m1, B1, hB1, h1⟩⟩ := hS
  obtain ⟨W, m, B, hB, hG, hT, hR⟩ := hA
  have g1 := pg_close1 hm hb h1 hc
  have hWZ : ∀ x, W x → Z x := fun x hx => Classical.byContradiction fun hn =>
    pg_disj hm hG g1 (fun x a b c => b (hT x a c)) x hx hn
  constructor
  · refine ⟨fun s x => if W x then m s x else if s < r then B + 1 + m0 s x else B + 1, B + 1 + B0, ?_, ?_⟩
    · intro s x
      dsimp only
      have a := hB s x
      have b := hB0 s x
      split
      · omega
      · split <;> omega
    · intro x hx hr
      by_cases hw : W x
      · refine hm _ _ ?_ x (hG x hw hr)
        intro y hy
        refine ⟨hWZ y hy.1, ?_, ?_⟩
        · intro s a b
          dsimp only
          rw [if_pos hw, if_pos hy.1]
          exact hy.2.1 s a b
        · intro hb2
          dsimp only
          rw [if_pos hw, if_pos hy.1]
          exact hy.2.2 hb2
      · have hlt : rk x < r := by
          rcases Nat.lt_or_ge (rk x) r with h | h
          · exact h
          · exact absurd (hR x (Nat.le_antisymm (Nat.lt_succ_iff.mp hr) h) hx) hw
        refine hm _ _ ?_ x (h0 x hx hlt)
        intro y hy
        refine ⟨hy.1, ?_, ?_⟩
        · intro s a b
          dsimp only
          rw [if_neg hw]
          have c := hB s y
          by_cases hwy : W y
          · rw [if_pos hwy]
            split <;> omega
          · rw [if_neg hwy]
            by_cases hs : s < r
            · rw [if_pos hs, if_pos hs]
              have := hy.2.1 s a hs
              omega
            · rw [if_neg hs, if_neg hs]
              exact Nat.le_refl _
        · intro hb2
          have c := hB (rk x) y
          by_cases hwy : W y
          · simp only [if_neg hw, if_pos hlt, if_pos hwy]
            omega
          · simp only [if_neg hw, if_pos hlt, if_neg hwy]
            have := hy.2.2 hb2
            omega
  · refine ⟨_, B1, ?_, g1⟩
    intro s x
    have := hB1 s x
    show (if s < r then m1 s x else 0) ≤ B1
    split <;> omega
theorem pg_turn {rk : α → Nat} {st : (α → Prop) → α → Prop} (hm : pg_mono st) {bad : Nat → Bool} {r : Nat} {Z Z' : α → Prop}
    (hS : pg_C rk st bad r Z) (hA : pg_Ap rk st bad r Z) (hu : ∀ x, r + 1 ≤ rk x → Z x → Z' x)
    (hr : ∀ x, rk x = r → Z' x → Z x ∨ st Z x) : pg_Ap rk st bad r Z' := by
  classical
  obtain ⟨m0, B0, hB0, h0⟩ := hS
  obtain ⟨W, m, B, hB, hG, hT, hR⟩ := hA
  refine ⟨fun x => W x ∨ Z x ∨ (rk x = r ∧ st Z x), fun s x => if W x then m s x else if Z x then (if s < r then B + 1 + m0 s x else B + 1) else B + B0 + 2, B + B0 + 2, ?_, ?_, ?_, ?_⟩
  · intro s x
    dsimp only
    have a := hB s x
    have b := hB0 s x
    split
    · omega
    · split
      · split <;> omega
      · omega
  · intro x hx hlt
    by_cases hw : W x
    · refine hm _ _ ?_ x (hG x hw hlt)
      intro y hy
      refine ⟨Or.inl hy.1, ?_, ?_⟩
      · intro s a b
        dsimp only
        rw [if_pos hw, if_pos hy.1]
        exact hy.2.1 s a b
      · intro hb2
        dsimp only
        rw [if_pos hw, if_pos hy.1]
        exact hy.2.2 hb2
    · by_cases hz : Z x
      · have hl : rk x < r := by
          rcases Nat.lt_or_ge (rk x) r with h | h
          · exact h
          · exact absurd (hR x (Nat.le_antisymm (Nat.lt_succ_iff.mp hlt) h) hz) hw
        refine hm _ _ ?_ x (h0 x hz hl)
        intro y hy
        refine ⟨Or.inr (Or.inl hy.1), ?_, ?_⟩
        · intro s a b
          dsimp only
          rw [if_neg hw, if_pos hz]
          have c := hB s y
          by_cases hwy : W y
          · rw [if_pos hwy]
            split <;> omega
          · rw [if_neg hwy, if_pos hy.1]
            by_cases hs : s < r
            · rw [if_pos hs, if_pos hs]
              have := hy.2.1 s a hs
              omega
            · rw [if_neg hs, if_neg hs]
              exact Nat.le_refl _
        · intro hb2
          have c := hB (rk x) y
          by_cases hwy : W y
          · simp only [if_neg hw, if_pos hz, if_pos hl, if_pos hwy]
            omega
          · simp only [if_neg hw, if_pos hz, if_pos hl, if_neg hwy, if_pos hy.1]
            have := hy.2.2 hb2
            omega
      · obtain ⟨e, hst⟩ : rk x = r ∧ st Z x := by
          rcases hx with h | h | h
          · exact absurd h hw
          · exact absurd h hz
          · exact h
        refine hm _ _ ?_ x hst
        intro y hy
        have key : ∀ s, r ≤ s → (if W y then m s y else if Z y then (if s < r then B + 1 + m0 s y else B + 1) else B + B0 + 2) < B + B0 + 2 := by
          intro s hs
          have c := hB s y
          by_cases hwy : W y
          · rw [if_pos hwy]
            omega
          · rw [if_neg hwy, if_pos hy, if_neg (by omega)]
            omega
        refine ⟨Or.inr (Or.inl hy), ?_, ?_⟩
        · intro s a b
          dsimp only
          rw [if_neg hw, if_neg hz]
          exact Nat.le_of_lt (key s (by omega))
        · intro hb2
          dsimp only
          rw [if_neg hw, if_neg hz]
          exact key (rk x) (by omega)
  · intro x hx hlt
    rcases hx with h | h | h
    · exact hu x hlt (hT x h hlt)
    · exact hu x hlt h
    · omega
  · intro x e hx
    rcases hr x e hx with h | h
    · exact Or.inr (Or.inl h)
    · exact Or.inr (Or.inr ⟨e, h⟩)
theorem pg_Ap_congr {rk : α → Nat} {st : (α → Prop) → α → Prop} {bad : Nat → Bool} {r : Nat} {Z Z' : α → Prop} (h : ∀ x, r ≤ rk x → (Z x ↔ Z' x))
    (hA : pg_Ap rk st bad r Z) : pg_Ap rk st bad r Z' := by
  obtain ⟨W, m, B, hB, hG, hT, hR⟩ := hA
  exact ⟨W, m, B, hB, hG, fun x a b => (h x (by omega)).mp (hT x a b), fun x a b => hR x a ((h x (by omega)).mpr b)⟩
theorem pg_Ap_no {rk : α → Nat} {st : (α → Prop) → α → Prop} {bad : Nat → Bool} {r : Nat} {Z : α → Prop} (h : ∀ x, rk x = r → ¬ Z x) : pg_Ap rk st bad r Z :=
  ⟨fun _ => False, fun _ _ => 0, 0, fun _ _ => Nat.le_refl _, fun _ z => z.elim, fun _ z => z.elim, fun x e z => h x e z⟩
def pg_Inv (rk : α → Nat) (st : (α → Prop) → α → Prop) (bad : Nat → Bool) (r : Nat) (Z : α → Prop) : Prop :=
  pg_Sv rk st bad r Z ∧ ∀ s, r ≤ s → (bad s = true → pg_Ap rk st bad s Z) ∧ (bad s = false → pg_Ap rk (pg_dual st) (fun s => !bad s) s (fun x => ¬ Z x))
theorem pg_Sv_0 {rk : α → Nat} {st : (α → Prop) → α → Prop} {bad : Nat → Bool} {Z : α → Prop} : pg_Sv rk st bad 0 Z :=
  ⟨⟨fun _ _ => 0, 0, fun _ _ => Nat.le_refl _, fun _ _ h => absurd h (Nat.not_lt_zero _)⟩, ⟨fun _ _ => 0, 0, fun _ _ => Nat.le_refl _, fun _ _ h => absurd h (Nat.not_lt_zero _)⟩⟩
theorem pg_Inv_0 {rk : α → Nat} {st : (α → Prop) → α → Prop} {bad : Nat → Bool} {Z : α → Prop} (h : ∀ x, Z x ↔ bad (rk x) = false) : pg_Inv rk st bad 0 Z := by
  refine ⟨pg_Sv_0, fun s _ => ⟨fun hb => pg_Ap_no ?_, fun hb => pg_Ap_no ?_⟩⟩
  · intro x e z
    have := (h x).mp z
    rw [e, hb] at this
    exact absurd this (by decide)
  · intro x e z
    exact z ((h x).mpr (by rw [e]; exact hb))
theorem pg_Inv_next {rk : α → Nat} {st : (α → Prop) → α → Prop} (hm : pg_mono st) {bad : Nat → Bool} {r : Nat} {Z : α → Prop} (hI : pg_Inv rk st bad r Z)
    (h1 : bad r = true → ∀ x, rk x = r → st Z x → Z x) (h0 : bad r = false → ∀ x, rk x = r → Z x → st Z x) : pg_Inv rk st bad (r + 1) Z := by
  refine ⟨?_, fun s hs => hI.2 s (by omega)⟩
  cases hb : bad r with
  | true => exact pg_close hm hb hI.1 ((hI.2 r (Nat.le_refl r)).1 hb) (h1 hb)
  | false =>
    refine pg_Sv_undual (pg_close (pg_dmono hm) (by simp [hb]) (pg_Sv_dual hI.1) ((hI.2 r (Nat.le_refl r)).2 hb) ?_)
    intro x e hd hz
    refine hd ?_
    rw [pg_nn]
    exact h0 hb x e hz
theorem pg_Inv_turn {rk : α → Nat} {st : (α → Prop) → α → Prop} (hm : pg_mono st) {bad : Nat → Bool} {r : Nat} {Z Z' : α → Prop} (hI : pg_Inv rk st bad r Z)
    (hu : ∀ x, r < rk x → (Z x ↔ Z' x)) (hl : ∀ x, rk x < r → (Z' x ↔ bad (rk x) = false))
    (h1 : bad r = true → ∀ x, rk x = r → Z' x → Z x ∨ st Z x) (h0 : bad r = false → ∀ x, rk x = r → ¬ Z' x → ¬ Z x ∨ ¬ st Z x) : pg_Inv rk st bad 0 Z' := by
  refine ⟨pg_Sv_0, fun s _ => ?_⟩
  rcases Nat.lt_or_ge s r with hs | hs
  · refine ⟨fun hb => pg_Ap_no ?_, fun hb => pg_Ap_no ?_⟩
    · intro x e z
      have := (hl x (by omega)).mp z
      rw [e, hb] at this
      exact absurd this (by decide)
    · intro x e z
      exact z ((hl x (by omega)).mpr (by rw [e]; exact hb))
  · rcases Nat.lt_or_ge r s with hs2 | hs2
    · refine ⟨fun hb => pg_Ap_congr (fun x hx => hu x (by omega)) ((hI.2 s (by omega)).1 hb), fun hb => pg_Ap_congr (fun x hx => not_congr (hu x (by omega))) ((hI.2 s (by omega)).2 hb)⟩
    · have e : s = r := by omega
      subst e
      refine ⟨fun hb => pg_turn hm hI.1.1 ((hI.2 s (Nat.le_refl s)).1 hb) (fun x hx z => (hu x (by omega)).mp z) (h1 hb), fun hb => pg_turn (pg_dmono hm) hI.1.2 ((hI.2 s (Nat.le_refl s)).2 hb) (fun x hx z => ?_) ?_⟩
      · exact fun y => z ((hu x (by omega)).mpr y)
      · intro x e z
        rcases h0 hb x e z with h | h
        · exact Or.inl h
        · refine Or.inr fun hd => h ?_
          rw [pg_nn] at hd
          exact hd
end
end
section
/-! fixpoints over a finite type, their approximants, and the closing of a level -/
theorem fx_nin {a b : Prop} (h : (¬ a) = ¬ b) : a = b :=
  propext ⟨fun ha => Classical.byContradiction fun hb => absurd ha (Eq.mpr h hb), fun hb => Classical.byContradiction fun ha => absurd hb (Eq.mp h ha)⟩
section
variable {β : Type}
def fx_Mu (f : (β → Prop) → β → Prop) (x : β → Prop) : Prop :=
  f x = x ∧ ∀ P : (β → Prop) → Prop, P (fun _ => False) → (∀ S T : β → Prop, P S → (∀ b, T b → f S b) → P T) → P x
def fx_Nu (f : (β → Prop) → β → Prop) (x : β → Prop) : Prop :=
  f x = x ∧ ∀ P : (β → Prop) → Prop, P (fun _ => True) → (∀ S T : β → Prop, P S → (∀ b, f S b → T b) → P T) → P x
theorem fx_nuMu {f : (β → Prop) → β → Prop} {x : β → Prop} (h : fx_Nu f x) : fx_Mu (pg_dual f) (fun b => ¬ x b) := by
  constructor
  · funext b
    show (¬ f (fun y => ¬ ¬ x y) b) = ¬ x b
    rw [pg_nn, h.1]
  · intro P h0 hs
    have := h.2 (fun S => P (fun b => ¬ S b)) (by
      have e : (fun b : β => ¬ (fun _ : β => True) b) = fun _ => False := by
        funext b
        exact propext ⟨fun z => z trivial, fun z => z.elim⟩
      rw [e]
      exact h0) ?_
    · exact this
    · intro S T hS hT
      refine hs _ _ hS ?_
      intro b hb hf
      rw [pg_nn] at hf
      exact hb (hT b hf)
theorem fx_muNu {f : (β → Prop) → β → Prop} {x : β → Prop} (h : fx_Mu (pg_dual f) (fun b => ¬ x b)) : fx_Nu f x := by
  constructor
  · have e := h.1
    funext b
    have e2 : (¬ f (fun y => ¬ ¬ x y) b) = ¬ x b := congrFun e b
    rw [pg_nn] at e2
    exact fx_nin e2
  · intro P h0 hs
    have := h.2 (fun S => P (fun b => ¬ S b)) (by
      have e : (fun b : β => ¬ (fun _ : β => False) b) = fun _ => True := by
        funext b
        exact propext ⟨fun _ => trivial, fun _ z => z⟩
      rw [e]
      exact h0) ?_
    · have e : (fun b => ¬ (fun b => ¬ x b) b) = x := pg_nn x
      dsimp only at this
      rw [pg_nn] at this
      exact this
    · intro S T hS hT
      refine hs _ _ hS ?_
      intro b hb hf
      exact hT b hf hb
def fx_lfp (f : (β → Prop) → β → Prop) : β → Prop := fun b => ∀ S : β → Prop, (∀ c, f S c → S c) → S b
def fx_gfp (f : (β → Prop) → β → Prop) : β → Prop := fun b => ∃ S : β → Prop, (∀ c, S c → f S c) ∧ S b
theorem fx_lfp_le {f : (β → Prop) → β → Prop} {S : β → Prop} (h : ∀ c, f S c → S c) : ∀ b, fx_lfp f b → S b := fun _ hb => hb S h
theorem fx_gfp_ge {f : (β → Prop) → β → Prop} {S : β → Prop} (h : ∀ c, S c → f S c) : ∀ b, S b → fx_gfp f b := fun _ hb => ⟨S, h, hb⟩
theorem fx_lfp_fix {f : (β → Prop) → β → Prop} (hm : pg_mono f) : f (fx_lfp f) = fx_lfp f := by
  have h1 : ∀ b, f (fx_lfp f) b → fx_lfp f b := fun b hb S hS => hS b (hm _ _ (fun c hc => hc S hS) b hb)
  funext b
  exact propext ⟨h1 b, fun hb => hb (f (fx_lfp f)) (fun c hc => hm _ _ h1 c hc)⟩
theorem fx_gfp_dual (f : (β → Prop) → β → Prop) : fx_gfp f = fun b => ¬ fx_lfp (pg_dual f) b := by
  funext b
  apply propext
  constructor
  · intro ⟨S, hS, hb⟩ hl
    refine hl (fun c => ¬ S c) ?_ hb
    intro c hc hs
    refine hc ?_
    rw [pg_nn]
    exact hS c hs
  · intro h
    refine Classical.byContradiction fun hn => h ?_
    intro S hS
    refine Classical.byContradiction fun hb => hn ⟨fun c => ¬ S c, ?_, hb⟩
    intro c hc
    exact Classical.byContradiction fun hf => hc (hS c hf)
theorem fx_gfp_fix {f : (β → Prop) → β → Prop} (hm : pg_mono f) : f (fx_gfp f) = fx_gfp f := by
  have e := fx_lfp_fix (pg_dmono hm)
  rw [fx_gfp_dual]
  funext b
  have e2 : (¬ f (fun y => ¬ fx_lfp (pg_dual f) y) b) = fx_lfp (pg_dual f) b := congrFun e b
  show f (fun y => ¬ fx_lfp (pg_dual f) y) b = ¬ fx_lfp (pg_dual f) b
  rw [← e2]
  exact propext Classical.not_not.symm
def fx_it (f : (β → Prop) → β → Prop) (S0 : β → Prop) : Nat → (β → Prop)
  | 0 => S0
  | k + 1 => f (fx_it f S0 k)
theorem fx_it_dual (f : (β → Prop) → β → Prop) (S0 : β → Prop) : ∀ k, fx_it (pg_dual f) (fun b => ¬ S0 b) k = fun b => ¬ fx_it f S0 k b := by
  intro k
  induction k with
  | zero => rfl
  | succ k ih =>
    show pg_dual f (fx_it (pg_dual f) (fun b => ¬ S0 b) k) = fun b => ¬ f (fx_it f S0 k) b
    rw [ih]
    funext b
    show (¬ f (fun y => ¬ ¬ fx_it f S0 k y) b) = _
    rw [pg_nn]
theorem fx_up1 {f : (β → Prop) → β → Prop} (hm : pg_mono f) {S0 : β → Prop} (h0 : ∀ b, S0 b → f S0 b) : ∀ k b, fx_it f S0 k b → fx_it f S0 (k + 1) b := by
  intro k
  induction k with
  | zero => exact h0
  | succ k ih => exact fun b hb => hm _ _ ih b hb
theorem fx_up {f : (β → Prop) → β → Prop} (hm : pg_mono f) {S0 : β → Prop} (h0 : ∀ b, S0 b → f S0 b) (j : Nat) : ∀ d b, fx_it f S0 j b → fx_it f S0 (j + d) b := by
  intro d
  induction d with
  | zero => exact fun b hb => hb
  | succ d ih => exact fun b hb => fx_up1 hm h0 (j + d) b (ih b hb)
theorem fx_stab {f : (β → Prop) → β → Prop} (hm : pg_mono f) {l : List β} (hl : ∀ b, b ∈ l) {S0 : β → Prop} (h0 : ∀ b, S0 b → f S0 b) : ∃ K, f (fx_it f S0 K) = fx_it f S0 K := by
  have key : ∀ l : List β, ∃ K, ∀ b, b ∈ l → (∃ k, fx_it f S0 k b) → fx_it f S0 K b := by
    intro l
    induction l with
    | nil => exact ⟨0, fun b hb => absurd hb List.not_mem_nil⟩
    | cons a l ih =>
      obtain ⟨K, hK⟩ := ih
      by_cases ha : ∃ k, fx_it f S0 k a
      · obtain ⟨k, hk⟩ := ha
        refine ⟨K + k, fun b hb hx => ?_⟩
        rcases List.mem_cons.mp hb with e | e
        · rw [e, Nat.add_comm]
          exact fx_up hm h0 k K a hk
        · exact fx_up hm h0 K k b (hK b e hx)
      · refine ⟨K, fun b hb hx => ?_⟩
        rcases List.mem_cons.mp hb with e | e
        · rw [e] at hx
          exact absurd hx ha
        · exact hK b e hx
  obtain ⟨K, hK⟩ := key l
  refine ⟨K, ?_⟩
  funext b
  exact propext ⟨fun hb => hK b (hl b) ⟨K + 1, hb⟩, fun hb => fx_up1 hm h0 K b hb⟩
theorem fx_stabD {f : (β → Prop) → β → Prop} (hm : pg_mono f) {l : List β} (hl : ∀ b, b ∈ l) {S0 : β → Prop} (h0 : ∀ b, f S0 b → S0 b) : ∃ K, f (fx_it f S0 K) = fx_it f S0 K := by
  obtain ⟨K, hK⟩ := fx_stab (pg_dmono hm) hl (S0 := fun b => ¬ S0 b) (by
    intro b hb hf
    rw [pg_nn] at hf
    exact hb (h0 b hf))
  refine ⟨K, ?_⟩
  rw [fx_it_dual] at hK
  funext b
  have e : (¬ f (fun y => ¬ ¬ fx_it f S0 K y) b) = ¬ fx_it f S0 K b := congrFun hK b
  rw [pg_nn] at e
  exact fx_nin e
theorem fx_it_le {f : (β → Prop) → β → Prop} (hm : pg_mono f) {S0 S : β → Prop} (h0 : ∀ b, S0 b → S b) (hS : ∀ b, f S b → S b) : ∀ k b, fx_it f S0 k b → S b := by
  intro k
  induction k with
  | zero => exact h0
  | succ k ih => exact fun b hb => hS b (hm _ _ ih b hb)
theorem fx_it_ge {f : (β → Prop) → β → Prop} (hm : pg_mono f) {S0 S : β → Prop} (h0 : ∀ b, S b → S0 b) (hS : ∀ b, S b → f S b) : ∀ k b, S b → fx_it f S0 k b := by
  intro k
  induction k with
  | zero => exact h0
  | succ k ih => exact fun b hb => hm _ _ ih b (hS b hb)
theorem fx_it_lfp {f : (β → Prop) → β → Prop} (hm : pg_mono f) {S0 : β → Prop} (h0 : ∀ b, S0 b → fx_lfp f b) {K : Nat} (hK : f (fx_it f S0 K) = fx_it f S0 K) : fx_it f S0 K = fx_lfp f := by
  funext b
  exact propext ⟨fx_it_le hm h0 (fun b hb => by rw [fx_lfp_fix hm] at hb; exact hb) K b, fx_lfp_le (fun c hc => by rw [hK] at hc; exact hc) b⟩
theorem fx_it_gfp {f : (β → Prop) → β → Prop} (hm : pg_mono f) {S0 : β → Prop} (h0 : ∀ b, fx_gfp f b → S0 b) {K : Nat} (hK : f (fx_it f S0 K) = fx_it f S0 K) : fx_it f S0 K = fx_gfp f := by
  funext b
  exact propext ⟨fx_gfp_ge (fun c hc => by rw [hK]; exact hc) b, fx_it_ge hm h0 (fun b hb => by rw [fx_gfp_fix hm]; exact hb) K b⟩
theorem fx_Mu_lfp {f : (β → Prop) → β → Prop} (hm : pg_mono f) {l : List β} (hl : ∀ b, b ∈ l) : fx_Mu f (fx_lfp f) := by
  refine ⟨fx_lfp_fix hm, fun P h0 hs => ?_⟩
  obtain ⟨K, hK⟩ := fx_stab hm hl (S0 := fun _ => False) (fun _ z => z.elim)
  rw [← fx_it_lfp hm (fun _ z => z.elim) hK]
  generalize K = k
  induction k with
  | zero => exact h0
  | succ k ih => exact hs _ _ ih (fun b hb => hb)
theorem fx_Nu_gfp {f : (β → Prop) → β → Prop} (hm : pg_mono f) {l : List β} (hl : ∀ b, b ∈ l) : fx_Nu f (fx_gfp f) := by
  apply fx_muNu
  rw [fx_gfp_dual]
  dsimp only
  rw [pg_nn]
  exact fx_Mu_lfp (pg_dmono hm) hl
end
section
variable {α β : Type}
theorem fx_close_mu {rk : α → Nat} {st : (α → Prop) → α → Prop} (hm : pg_mono st) {bad : Nat → Bool} {r : Nat} (hb : bad r = true) (e : β → α)
    (he : ∀ x, rk x = r → ∃ b, x = e b) (Zf : (β → Prop) → α → Prop) (hz : ∀ S b, Zf S (e b) ↔ S b) (hu : ∀ S T x, r + 1 ≤ rk x → Zf S x → Zf T x)
    (hS : ∀ S, pg_Sv rk st bad r (Zf S)) {L : β → Prop} (hL : fx_Mu (fun S b => st (Zf S) (e b)) L) : pg_Sv rk st bad (r + 1) (Zf L) := by
  refine pg_close hm hb (hS L) (hL.2 (fun S => pg_Ap rk st bad r (Zf S)) ?_ ?_) ?_
  · refine pg_Ap_no ?_
    intro x hx z
    obtain ⟨b, rfl⟩ := he x hx
    exact (hz _ b).mp z
  · intro S T hP hT
    refine pg_turn hm (hS S).1 hP (hu S T) ?_
    intro x hx z
    obtain ⟨b, rfl⟩ := he x hx
    exact Or.inr (hT b ((hz _ b).mp z))
  · intro x hx z
    obtain ⟨b, rfl⟩ := he x hx
    have : st (Zf L) (e b) = L b := congrFun hL.1 b
    exact (hz _ b).mpr (this ▸ z)
theorem fx_close_nu {rk : α → Nat} {st : (α → Prop) → α → Prop} (hm : pg_mono st) {bad : Nat → Bool} {r : Nat} (hb : bad r = false) (e : β → α)
    (he : ∀ x, rk x = r → ∃ b, x = e b) (Zf : (β → Prop) → α → Prop) (hz : ∀ S b, Zf S (e b) ↔ S b) (hu : ∀ S T x, r + 1 ≤ rk x → Zf S x → Zf T x)
    (hS : ∀ S, pg_Sv rk st bad r (Zf S)) {L : β → Prop} (hL : fx_Nu (fun S b => st (Zf S) (e b)) L) : pg_Sv rk st bad (r + 1) (Zf L) := by
  apply pg_Sv_undual
  have h := fx_close_mu (pg_dmono hm) (bad := fun s => !bad s) (r := r) (by simp [hb]) e he (fun S x => ¬ Zf (fun b => ¬ S b) x)
    (fun S b => by rw [hz]; exact Classical.not_not) (fun S T x hx z y => z (hu _ _ x hx y)) (fun S => pg_Sv_dual (hS _)) (L := fun b => ¬ L b) (by
      have h2 := fx_nuMu hL
      have e2 : (fun (S : β → Prop) b => pg_dual st (fun x => ¬ Zf (fun b => ¬ S b) x) (e b)) = pg_dual (fun S b => st (Zf S) (e b)) := by
        funext S b
        show (¬ st (fun y => ¬ ¬ Zf (fun b => ¬ S b) y) (e b)) = ¬ st (Zf fun b => ¬ S b) (e b)
        rw [pg_nn]
      rw [e2]
      exact h2)
  rw [pg_nn] at h
  exact h
end
section
variable {V ι : Type}
def fx_prod (f : ι → (V → Prop) → V → Prop) : (V × ι → Prop) → V × ι → Prop := fun S p => f p.2 (fun w => S (w, p.2)) p.1
theorem fx_prod_mono {f : ι → (V → Prop) → V → Prop} (hm : ∀ i, pg_mono (f i)) : pg_mono (fx_prod f) :=
  fun _ _ h p hp => hm p.2 _ _ (fun _ hw => h _ hw) p.1 hp
theorem fx_Mu_prod {f : ι → (V → Prop) → V → Prop} (hm : ∀ i, pg_mono (f i)) {l : List ι} (hl : ∀ i, i ∈ l) {x : ι → V → Prop} (hx : ∀ i, fx_Mu (f i) (x i)) :
    fx_Mu (fx_prod f) (fun p => x p.2 p.1) := by
  constructor
  · funext p
    exact congrFun (hx p.2).1 p.1
  · intro P h0 hs
    have key : ∀ l : List ι, P (fun p => p.2 ∈ l ∧ x p.2 p.1) := by
      intro l
      induction l with
      | nil =>
        have e : (fun p : V × ι => p.2 ∈ ([] : List ι) ∧ x p.2 p.1) = fun _ => False := by
          funext p
          exact propext ⟨fun z => absurd z.1 List.not_mem_nil, fun z => z.elim⟩
        rw [e]
        exact h0
      | cons i l ih =>
        have h := (hx i).2 (fun S => P (fun p => (p.2 ∈ l ∧ x p.2 p.1) ∨ (p.2 = i ∧ S p.1))) ?_ ?_
        · have e : (fun p : V × ι => p.2 ∈ i :: l ∧ x p.2 p.1) = fun p => (p.2 ∈ l ∧ x p.2 p.1) ∨ (p.2 = i ∧ x i p.1) := by
            funext p
            apply propext
            rw [List.mem_cons]
            constructor
            · intro ⟨h1, h2⟩
              rcases h1 with h1 | h1
              · exact Or.inr ⟨h1, h1 ▸ h2⟩
              · exact Or.inl ⟨h1, h2⟩
            · intro h1
              rcases h1 with h1 | h1
              · exact ⟨Or.inr h1.1, h1.2⟩
              · exact ⟨Or.inl h1.1, h1.1.symm ▸ h1.2⟩
          rw [e]
          exact h
        · have e : (fun p : V × ι => (p.2 ∈ l ∧ x p.2 p.1) ∨ (p.2 = i ∧ (fun _ : V => False) p.1)) = fun p => p.2 ∈ l ∧ x p.2 p.1 := by
            funext p
            exact propext ⟨fun z => z.elim id (fun y => y.2.elim), Or.inl⟩
          rw [e]
          exact ih
        · intro S T hS hT
          refine hs _ _ hS ?_
          intro p hp
          rcases hp with hp | hp
          · have h2 : f p.2 (x p.2) p.1 := by
              rw [(hx p.2).1]
              exact hp.2
            exact hm p.2 _ _ (fun w hw => Or.inl ⟨hp.1, hw⟩) p.1 h2
          · have h2 : f p.2 S p.1 := by
              rw [hp.1]
              exact hT p.1 hp.2
            exact hm p.2 _ _ (fun w hw => Or.inr ⟨hp.1, hw⟩) p.1 h2
    have e : (fun p : V × ι => x p.2 p.1) = fun p => p.2 ∈ l ∧ x p.2 p.1 := by
      funext p
      exact propext ⟨fun z => ⟨hl p.2, z⟩, fun z => z.2⟩
    rw [e]
    exact key l
theorem fx_Nu_prod {f : ι → (V → Prop) → V → Prop} (hm : ∀ i, pg_mono (f i)) {l : List ι} (hl : ∀ i, i ∈ l) {x : ι → V → Prop} (hx : ∀ i, fx_Nu (f i) (x i)) :
    fx_Nu (fx_prod f) (fun p => x p.2 p.1) := by
  apply fx_muNu
  exact fx_Mu_prod (f := fun i => pg_dual (f i)) (fun i => pg_dmono (hm i)) hl (x := fun i v => ¬ x i v) (fun i => fx_nuMu (hx i))
theorem fx_Mu_seq {f : (V → Prop) → V → Prop} {g : (V → Prop) → (V → Prop) → V → Prop} {T R : V → Prop} (hT : fx_Mu f T) (hR : fx_Mu (g T) R) :
    fx_Mu (fun (S : V ⊕ V → Prop) p => Sum.elim (fun v => f (fun w => S (Sum.inl w)) v) (fun v => g (fun w => S (Sum.inl w)) (fun w => S (Sum.inr w)) v) p) (Sum.elim T R) := by
  constructor
  · funext p
    cases p with
    | inl v => exact congrFun hT.1 v
    | inr v => exact congrFun hR.1 v
  · intro P h0 hs
    have h1 : P (Sum.elim T (fun _ => False)) := by
      refine hT.2 (fun S => P (Sum.elim S (fun _ => False))) ?_ ?_
      · have e : Sum.elim (fun _ : V => False) (fun _ : V => False) = fun _ => False := by
          funext p
          cases p <;> rfl
        rw [e]
        exact h0
      · intro S T hS hT
        refine hs _ _ hS ?_
        intro p hp
        cases p with
        | inl v => exact hT v hp
        | inr v => exact hp.elim
    refine hR.2 (fun S => P (Sum.elim T S)) h1 ?_
    intro S T2 hS hT2
    refine hs _ _ hS ?_
    intro p hp
    cases p with
    | inl v =>
      show f T v
      rw [hT.1]
      exact hp
    | inr v => exact hT2 v hp
end
end
section
/-! infinite paths, what holds from some point on, the parity of a certified path -/
def pg_odd (s : Nat) : Bool := s % 2 == 1
theorem pt_seq {σ : Type} (S : σ → Prop) (R : σ → σ → Prop) (h : ∀ x, S x → ∃ y, S y ∧ R x y) (x0 : σ) (h0 : S x0) :
    ∃ f : Nat → σ, f 0 = x0 ∧ ∀ n, S (f n) ∧ R (f n) (f (n + 1)) := by
  have hc : ∀ x : {x // S x}, ∃ y : {x // S x}, R x.1 y.1 := fun x => by
    obtain ⟨y, hy, hr⟩ := h x.1 x.2
    exact ⟨⟨y, hy⟩, hr⟩
  let g : {x // S x} → {x // S x} := fun x => Classical.choose (hc x)
  have hg : ∀ x, R x.1 (g x).1 := fun x => Classical.choose_spec (hc x)
  let f : Nat → {x // S x} := fun n => Nat.rec ⟨x0, h0⟩ (fun _ x => g x) n
  refine ⟨fun n => (f n).1, rfl, fun n => ⟨(f n).2, hg (f n)⟩⟩
def pt_Ev (P : Nat → Prop) : Prop := ∃ N, ∀ n, N ≤ n → P n
def pt_io (P : Nat → Prop) : Prop := ¬ pt_Ev (fun n => ¬ P n)
theorem pt_Ev_all {P : Nat → Prop} (h : ∀ n, P n) : pt_Ev P := ⟨0, fun n _ => h n⟩
theorem pt_Ev_mono {P Q : Nat → Prop} (h : ∀ n, P n → Q n) (hp : pt_Ev P) : pt_Ev Q := by
  obtain ⟨N, hN⟩ := hp
  exact ⟨N, fun n hn => h n (hN n hn)⟩
theorem pt_Ev_and {P Q : Nat → Prop} (hp : pt_Ev P) (hq : pt_Ev Q) : pt_Ev (fun n => P n ∧ Q n) := by
  obtain ⟨N, hN⟩ := hp
  obtain ⟨M, hM⟩ := hq
  exact ⟨N + M, fun n hn => ⟨hN n (by omega), hM n (by omega)⟩⟩
theorem pt_Ev_not (h : pt_Ev (fun _ => False)) : False := by
  obtain ⟨N, hN⟩ := h
  exact hN N (Nat.le_refl N)
theorem pt_Ev_s {P : Nat → Prop} (h : pt_Ev P) : pt_Ev (fun n => P (n + 1)) := by
  obtain ⟨N, hN⟩ := h
  exact ⟨N, fun n hn => hN (n + 1) (by omega)⟩
theorem pt_Ev_p {P : Nat → Prop} (h : pt_Ev (fun n => P (n + 1))) : pt_Ev P := by
  obtain ⟨N, hN⟩ := h
  refine ⟨N + 1, fun n hn => ?_⟩
  obtain ⟨k, rfl⟩ : ∃ k, n = k + 1 := ⟨n - 1, by omega⟩
  exact hN k (by omega)
theorem pt_io_get {P : Nat → Prop} (h : pt_io P) (N : Nat) : ∃ n, N ≤ n ∧ P n :=
  Classical.byContradiction fun hn => h ⟨N, fun n a b => hn ⟨n, a, b⟩⟩
theorem pt_io_of {P : Nat → Prop} (h : ∀ N, ∃ n, N ≤ n ∧ P n) : pt_io P := by
  intro ⟨N, hN⟩
  obtain ⟨n, a, b⟩ := h N
  exact hN n a b
theorem pt_io_mono {P Q : Nat → Prop} (h : ∀ n, P n → Q n) (hp : pt_io P) : pt_io Q :=
  fun hq => hp (pt_Ev_mono (fun n hn hp => hn (h n hp)) hq)
theorem pt_io_and {P Q : Nat → Prop} (hp : pt_io P) (hq : pt_Ev Q) : pt_io (fun n => P n ∧ Q n) :=
  fun h => hp (pt_Ev_mono (fun _ hn hp => hn.1 ⟨hp, hn.2⟩) (pt_Ev_and h hq))
theorem pt_nio {P : Nat → Prop} (h : ¬ pt_io P) : pt_Ev (fun n => ¬ P n) := Classical.not_not.mp h
section
variable {α : Type}
theorem pt_par {rk : α → Nat} {bad : Nat → Bool} {r : Nat} {m : Nat → α → Nat} {x : Nat → α} (hd : ∀ n, pg_dec rk bad r m (x n) (x (n + 1))) {s : Nat} (hs : s < r)
    (hb : bad s = true) (h : pt_Ev (fun n => rk (x n) ≤ s)) : pt_Ev (fun n => rk (x n) < s) := by
  obtain ⟨N, hN⟩ := h
  have key : ∀ k M, N ≤ M → m s (x M) = k → pt_Ev (fun n => rk (x n) < s) := by
    intro k
    induction k using Nat.strongRecOn with
    | _ k ih =>
      intro M hM hk
      by_cases hh : ∃ n, M ≤ n ∧ rk (x n) = s
      · obtain ⟨n, hn, he⟩ := hh
        have mono : ∀ d, m s (x (M + d)) ≤ m s (x M) := by
          intro d
          induction d with
          | zero => exact Nat.le_refl _
          | succ d ihd => exact Nat.le_trans ((hd (M + d)).1 s (hN _ (by omega)) hs) ihd
        have h1 := mono (n - M)
        rw [show M + (n - M) = n by omega] at h1
        have h2 := (hd n).2 (by rw [he]; exact hb)
        rw [he] at h2
        exact ih (m s (x (n + 1))) (by omega) (n + 1) (by omega) rfl
      · refine ⟨M, fun n hn => ?_⟩
        have h1 := hN n (by omega)
        have h2 : rk (x n) ≠ s := fun e => hh ⟨n, hn, e⟩
        omega
  exact key _ N (Nat.le_refl N) rfl
end
section
variable {V M : Type}
def xa_st (F : (V → Prop) → V → Prop) (δ : V → M → M) : (V × M → Prop) → V × M → Prop := fun Z x => F (fun w => Z (w, δ x.1 x.2)) x.1
theorem xa_mono {F : (V → Prop) → V → Prop} (hF : pg_mono F) (δ : V → M → M) : pg_mono (xa_st F δ) := fun _ _ h x hx => hF _ _ (fun _ hw => h _ hw) x.1 hx
theorem xa_dual (F : (V → Prop) → V → Prop) (δ : V → M → M) : pg_dual (xa_st F δ) = xa_st (pg_dual F) δ := rfl
end
/-! waiting for one set, then for the other -/
theorem wt_io {a b l : Nat → Prop} (hl : ∀ n, l (n + 1) ↔ ¬ ((l n ∨ a n) ∧ b n) ∧ (l n ∨ a n)) (ha : pt_io a) (hb : pt_io b) : pt_io (fun n => (l n ∨ a n) ∧ b n) := by
  intro ⟨N, hN⟩
  obtain ⟨n, hn, an⟩ := pt_io_get ha N
  have key : ∀ d, l (n + 1 + d) := by
    intro d
    induction d with
    | zero => exact (hl n).mpr ⟨hN n hn, Or.inr an⟩
    | succ d ih => exact (hl (n + 1 + d)).mpr ⟨hN _ (by omega), Or.inl ih⟩
  obtain ⟨k, hk, bk⟩ := pt_io_get hb (n + 1)
  refine hN k (by omega) ⟨Or.inl ?_, bk⟩
  have := key (k - (n + 1))
  rw [show n + 1 + (k - (n + 1)) = k by omega] at this
  exact this
theorem wt_back {a b l : Nat → Prop} (hl : ∀ n, l (n + 1) ↔ ¬ ((l n ∨ a n) ∧ b n) ∧ (l n ∨ a n)) (hw : pt_io (fun n => (l n ∨ a n) ∧ b n)) : pt_io a ∧ pt_io b := by
  constructor
  · intro ⟨N, hN⟩
    obtain ⟨n, hn, wn⟩ := pt_io_get hw N
    have key : ∀ d, ¬ l (n + 1 + d) := by
      intro d
      induction d with
      | zero => exact fun h => ((hl n).mp h).1 wn
      | succ d ih =>
        intro h
        rcases ((hl (n + 1 + d)).mp h).2 with h2 | h2
        · exact ih h2
        · exact hN _ (by omega) h2
    refine hw ⟨n + 1, fun k hk hc => ?_⟩
    have := key (k - (n + 1))
    rw [show n + 1 + (k - (n + 1)) = k by omega] at this
    rcases hc.1 with h | h
    · exact this h
    · exact hN k (by omega) h
  · exact pt_io_mono (fun n h => h.2) hw
end
section
/-! goals 2 to 5: if both of A come again and again, both of s do -/
section
variable {V M : Type}
def gr_X (F : (V → Prop) → V → Prop) (A s : Bool → V → Prop) (j i : Bool) (z y : V → Prop) : V → Prop := fx_gfp (fun X v => (s j v ∧ F z v) ∨ F y v ∨ (¬ A i v ∧ F X v))
def gr_Y (F : (V → Prop) → V → Prop) (A s : Bool → V → Prop) (j : Bool) (z : V → Prop) : V → Prop := fx_lfp (fun y v => ∃ i, gr_X F A s j i z y v)
def gr_Z (F : (V → Prop) → V → Prop) (A s : Bool → V → Prop) : V → Prop := fx_gfp (fun z v => ∀ j, gr_Y F A s j z v)
theorem fx_lfp_mono {f g : (V → Prop) → V → Prop} (h : ∀ S v, f S v → g S v) : ∀ v, fx_lfp f v → fx_lfp g v := fun _ hv S hS => hv S (fun c hc => hS c (h S c hc))
theorem fx_gfp_mono {f g : (V → Prop) → V → Prop} (h : ∀ S v, f S v → g S v) : ∀ v, fx_gfp f v → fx_gfp g v := fun _ ⟨S, hS, hv⟩ => ⟨S, fun c hc => h S c (hS c hc), hv⟩
variable {F : (V → Prop) → V → Prop} {A s : Bool → V → Prop}
theorem gr_X_m1 (hF : pg_mono F) (j i : Bool) (z y : V → Prop) : pg_mono (fun X v => (s j v ∧ F z v) ∨ F y v ∨ (¬ A i v ∧ F X v)) := by
  intro S T h v hv
  rcases hv with hv | hv | hv
  · exact Or.inl hv
  · exact Or.inr (Or.inl hv)
  · exact Or.inr (Or.inr ⟨hv.1, hF _ _ h v hv.2⟩)
theorem gr_X_m2 (hF : pg_mono F) (j i : Bool) {z z' y y' : V → Prop} (hz : ∀ v, z v → z' v) (hy : ∀ v, y v → y' v) : ∀ v, gr_X F A s j i z y v → gr_X F A s j i z' y' v := by
  refine fx_gfp_mono ?_
  intro S v hv
  rcases hv with hv | hv | hv
  · exact Or.inl ⟨hv.1, hF _ _ hz v hv.2⟩
  · exact Or.inr (Or.inl (hF _ _ hy v hv))
  · exact Or.inr (Or.inr hv)
theorem gr_Y_m1 (hF : pg_mono F) (j : Bool) (z : V → Prop) : pg_mono (fun y v => ∃ i, gr_X F A s j i z y v) := fun _ _ h v ⟨i, hi⟩ => ⟨i, gr_X_m2 hF j i (fun _ a => a) h v hi⟩
theorem gr_Y_m2 (hF : pg_mono F) (j : Bool) {z z' : V → Prop} (hz : ∀ v, z v → z' v) : ∀ v, gr_Y F A s j z v → gr_Y F A s j z' v :=
  fx_lfp_mono (fun _ v ⟨i, hi⟩ => ⟨i, gr_X_m2 hF j i hz (fun _ a => a) v hi⟩)
theorem gr_Z_m1 (hF : pg_mono F) : pg_mono (fun z v => ∀ j, gr_Y F A s j z v) := fun _ _ h v hv j => gr_Y_m2 hF j h v (hv j)
def gr_B (F : (V → Prop) → V → Prop) (A s : Bool → V → Prop) (S : V ⊕ ((V × Bool) ⊕ (V × (Bool × Bool))) → Prop) (j i : Bool) (v : V) : Prop :=
  (s j v ∧ F (fun w => S (.inl w)) v) ∨ F (fun w => S (.inr (.inl (w, j)))) v ∨ (¬ A i v ∧ F (fun w => S (.inr (.inr (w, (j, i))))) v)
def gr_st (F : (V → Prop) → V → Prop) (A s : Bool → V → Prop) (S : V ⊕ ((V × Bool) ⊕ (V × (Bool × Bool))) → Prop) (x : V ⊕ ((V × Bool) ⊕ (V × (Bool × Bool)))) : Prop :=
  match x with
  | .inl v => ∀ j, ∃ i, gr_B F A s S j i v
  | .inr (.inl p) => ∃ i, gr_B F A s S p.2 i p.1
  | .inr (.inr p) => gr_B F A s S p.2.1 p.2.2 p.1
def gr_rk (x : V ⊕ ((V × Bool) ⊕ (V × (Bool × Bool)))) : Nat :=
  match x with
  | .inl _ => 2
  | .inr (.inl _) => 1
  | .inr (.inr _) => 0
def gr_asg (z : V → Prop) (y : V × Bool → Prop) (X : V × (Bool × Bool) → Prop) (x : V ⊕ ((V × Bool) ⊕ (V × (Bool × Bool)))) : Prop :=
  match x with
  | .inl v => z v
  | .inr (.inl p) => y p
  | .inr (.inr p) => X p
theorem gr_B_m (hF : pg_mono F) (j i : Bool) {S T : V ⊕ ((V × Bool) ⊕ (V × (Bool × Bool))) → Prop} (h : ∀ x, S x → T x) (v : V) (hv : gr_B F A s S j i v) : gr_B F A s T j i v := by
  rcases hv with hv | hv | hv
  · exact Or.inl ⟨hv.1, hF _ _ (fun _ hw => h _ hw) v hv.2⟩
  · exact Or.inr (Or.inl (hF _ _ (fun _ hw => h _ hw) v hv))
  · exact Or.inr (Or.inr ⟨hv.1, hF _ _ (fun _ hw => h _ hw) v hv.2⟩)
theorem gr_st_m (hF : pg_mono F) : pg_mono (gr_st F A s) := by
  intro S T h x hx
  match x, hx with
  | .inl v, hx => exact fun j => (hx j).elim fun i hi => ⟨i, gr_B_m hF j i h v hi⟩
  | .inr (.inl p), hx => exact hx.elim fun i hi => ⟨i, gr_B_m hF p.2 i h p.1 hi⟩
  | .inr (.inr p), hx => exact gr_B_m hF p.2.1 p.2.2 h p.1 hx
def gr_fX (F : (V → Prop) → V → Prop) (A s : Bool → V → Prop) (z : V → Prop) (y : V × Bool → Prop) : V × (Bool × Bool) → Prop := fun p => gr_X F A s p.2.1 p.2.2 z (fun w => y (w, p.2.1)) p.1
def gr_fY (F : (V → Prop) → V → Prop) (A s : Bool → V → Prop) (z : V → Prop) : V × Bool → Prop := fun p => gr_Y F A s p.2 z p.1
theorem gr_mem2 : ∀ i : Bool, i ∈ [false, true] := by decide
theorem gr_mem4 : ∀ i : Bool × Bool, i ∈ [(false, false), (false, true), (true, false), (true, true)] := by
  intro i
  obtain ⟨a, b⟩ := i
  cases a <;> cases b <;> decide

theorem gr_Sv1 (hF : pg_mono F) {l : List V} (hl : ∀ v, v ∈ l) (z : V → Prop) (y : V × Bool → Prop) : pg_Sv gr_rk (gr_st F A s) pg_odd 1 (gr_asg z y (gr_fX F A s z y)) := by
  refine fx_close_nu (gr_st_m hF) (r := 0) rfl (fun p => Sum.inr (Sum.inr p)) ?_ (fun S => gr_asg z y S) (fun S b => Iff.rfl) ?_ (fun S => pg_Sv_0) ?_
  · intro x hx
    match x, hx with
    | .inr (.inr p), _ => exact ⟨p, rfl⟩
  · intro S T x hx h
    match x, hx, h with
    | .inl v, _, h => exact h
    | .inr (.inl p), _, h => exact h
  · exact fx_Nu_prod (f := fun (i : Bool × Bool) X v => (s i.1 v ∧ F z v) ∨ F (fun w => y (w, i.1)) v ∨ (¬ A i.2 v ∧ F X v)) (fun i => gr_X_m1 hF i.1 i.2 z _) gr_mem4
      (x := fun i => gr_X F A s i.1 i.2 z (fun w => y (w, i.1))) (fun i => fx_Nu_gfp (gr_X_m1 hF i.1 i.2 z _) hl)
theorem gr_X_fix (hF : pg_mono F) (j i : Bool) (z y : V → Prop) (v : V) : ((s j v ∧ F z v) ∨ F y v ∨ (¬ A i v ∧ F (gr_X F A s j i z y) v)) = gr_X F A s j i z y v :=
  congrFun (fx_gfp_fix (gr_X_m1 (A := A) (s := s) hF j i z y)) v
theorem gr_Sv2 (hF : pg_mono F) {l : List V} (hl : ∀ v, v ∈ l) (z : V → Prop) : pg_Sv gr_rk (gr_st F A s) pg_odd 2 (gr_asg z (gr_fY F A s z) (gr_fX F A s z (gr_fY F A s z))) := by
  refine fx_close_mu (gr_st_m hF) (r := 1) rfl (fun p => Sum.inr (Sum.inl p)) ?_ (fun S => gr_asg z S (gr_fX F A s z S)) (fun S b => Iff.rfl) ?_ (fun S => gr_Sv1 hF hl z S) ?_
  · intro x hx
    match x, hx with
    | .inr (.inl p), _ => exact ⟨p, rfl⟩
  · intro S T x hx h
    match x, hx, h with
    | .inl v, _, h => exact h
  · have e : (fun (S : V × Bool → Prop) (b : V × Bool) => gr_st F A s (gr_asg z S (gr_fX F A s z S)) (Sum.inr (Sum.inl b))) = fx_prod (fun j y v => ∃ i, gr_X F A s j i z y v) := by
      funext S b
      show (∃ i, (s b.2 b.1 ∧ F z b.1) ∨ F (fun w => S (w, b.2)) b.1 ∨ (¬ A i b.1 ∧ F (gr_X F A s b.2 i z (fun w => S (w, b.2))) b.1)) = ∃ i, gr_X F A s b.2 i z (fun w => S (w, b.2)) b.1
      apply congrArg
      funext i
      exact gr_X_fix hF b.2 i z _ b.1
    rw [e]
    exact fx_Mu_prod (fun j => gr_Y_m1 hF j z) gr_mem2 (x := fun j => gr_Y F A s j z) (fun j => fx_Mu_lfp (gr_Y_m1 hF j z) hl)
theorem gr_Y_fix (hF : pg_mono F) (j : Bool) (z : V → Prop) (v : V) : (∃ i, gr_X F A s j i z (gr_Y F A s j z) v) = gr_Y F A s j z v :=
  congrFun (fx_lfp_fix (gr_Y_m1 (A := A) (s := s) hF j z)) v
theorem gr_Sv3 (hF : pg_mono F) {l : List V} (hl : ∀ v, v ∈ l) : pg_Sv gr_rk (gr_st F A s) pg_odd 3 (gr_asg (gr_Z F A s) (gr_fY F A s (gr_Z F A s)) (gr_fX F A s (gr_Z F A s) (gr_fY F A s (gr_Z F A s)))) := by
  refine fx_close_nu (gr_st_m hF) (r := 2) rfl (fun p => Sum.inl p) ?_ (fun S => gr_asg S (gr_fY F A s S) (gr_fX F A s S (gr_fY F A s S))) (fun S b => Iff.rfl) ?_ (fun S => gr_Sv2 hF hl S) ?_
  · intro x hx
    match x, hx with
    | .inl p, _ => exact ⟨p, rfl⟩
  · intro S T x hx h
    match x, hx with
    | .inl v, hx => exact absurd hx (show ¬ (2 + 1 ≤ 2) by decide)
    | .inr (.inl v), hx => exact absurd hx (show ¬ (2 + 1 ≤ 1) by decide)
    | .inr (.inr v), hx => exact absurd hx (show ¬ (2 + 1 ≤ 0) by decide)
  · have e : (fun (S : V → Prop) (b : V) => gr_st F A s (gr_asg S (gr_fY F A s S) (gr_fX F A s S (gr_fY F A s S))) (Sum.inl b)) = fun z v => ∀ j, gr_Y F A s j z v := by
      funext S b
      show (∀ j, ∃ i, (s j b ∧ F S b) ∨ F (gr_Y F A s j S) b ∨ (¬ A i b ∧ F (gr_X F A s j i S (gr_Y F A s j S)) b)) = ∀ j, gr_Y F A s j S b
      apply forall_congr
      intro j
      rw [← gr_Y_fix hF j S b]
      apply congrArg
      funext i
      exact gr_X_fix hF j i S _ b
    rw [e]
    exact fx_Nu_gfp (gr_Z_m1 hF) hl
end
end
section
/-! goals 2 to 5: the arena with memory and the formula agree -/
section
variable {V M : Type}
def gr_want (A : Bool → V → Prop) (low : M → Prop) (v : V) (m : M) : Prop := (low m ∨ A false v) ∧ A true v
def gr_Run (δ : V → M → M) (A : Bool → V → Prop) (low : M → Prop) : Prop := ∀ v m, low (δ v m) ↔ ¬ gr_want A low v m ∧ (low m ∨ A false v)
def gr_Rank (rkx : V × M → Nat) (A s : Bool → V → Prop) (low high : M → Prop) : Prop :=
  ∀ v m, (gr_want s high v m → rkx (v, m) = 2) ∧ (¬ gr_want s high v m → gr_want A low v m → rkx (v, m) = 1) ∧ (¬ gr_want s high v m → ¬ gr_want A low v m → rkx (v, m) = 0)
variable {F : (V → Prop) → V → Prop} {A s : Bool → V → Prop} {δ : V → M → M} {rkx : V × M → Nat} {low high : M → Prop}
theorem gr_x0 (hlo : gr_Run δ A low) (hhi : gr_Run δ s high) (hrk : gr_Rank rkx A s low high) {x : Nat → V × M} (hx : ∀ n, (x (n + 1)).2 = δ (x n).1 (x n).2)
    (hp : pt_Ev (fun n => rkx (x n) ≤ 1) → pt_Ev (fun n => rkx (x n) < 1)) (ha : pt_io (fun n => A false (x n).1)) (hb : pt_io (fun n => A true (x n).1)) :
    pt_io (fun n => s false (x n).1) ∧ pt_io (fun n => s true (x n).1) := by
  have w := wt_io (l := fun n => low (x n).2) (fun n => by rw [hx]; exact hlo _ _) ha hb
  refine wt_back (l := fun n => high (x n).2) (fun n => by rw [hx]; exact hhi _ _) ?_
  intro hg
  refine w (pt_Ev_mono ?_ (pt_Ev_and hg (hp (pt_Ev_mono ?_ hg))))
  · intro n hn hw
    have := (hrk (x n).1 (x n).2).2.1 hn.1 hw
    have h2 : rkx (x n) < 1 := hn.2
    have h3 : rkx (x n) = 1 := this
    omega
  · intro n hn
    by_cases hw : gr_want A low (x n).1 (x n).2
    · have : rkx (x n) = 1 := (hrk (x n).1 (x n).2).2.1 hn hw
      omega
    · have : rkx (x n) = 0 := (hrk (x n).1 (x n).2).2.2 hn hw
      omega
theorem gr_x1 (hlo : gr_Run δ A low) (hhi : gr_Run δ s high) (hrk : gr_Rank rkx A s low high) {x : Nat → V × M} (hx : ∀ n, (x (n + 1)).2 = δ (x n).1 (x n).2)
    (hp2 : pt_Ev (fun n => rkx (x n) ≤ 2) → pt_Ev (fun n => rkx (x n) < 2)) (hp0 : pt_Ev (fun n => rkx (x n) ≤ 0) → pt_Ev (fun n => rkx (x n) < 0)) :
    pt_io (fun n => A false (x n).1) ∧ pt_io (fun n => A true (x n).1) ∧ ¬ (pt_io (fun n => s false (x n).1) ∧ pt_io (fun n => s true (x n).1)) := by
  have e2 : pt_Ev (fun n => rkx (x n) < 2) := by
    refine hp2 (pt_Ev_all fun n => ?_)
    by_cases hg : gr_want s high (x n).1 (x n).2
    · have : rkx (x n) = 2 := (hrk (x n).1 (x n).2).1 hg
      omega
    · by_cases hw : gr_want A low (x n).1 (x n).2
      · have : rkx (x n) = 1 := (hrk (x n).1 (x n).2).2.1 hg hw
        omega
      · have : rkx (x n) = 0 := (hrk (x n).1 (x n).2).2.2 hg hw
        omega
  have eg : pt_Ev (fun n => ¬ gr_want s high (x n).1 (x n).2) := pt_Ev_mono (fun n hn hg => by
    have : rkx (x n) = 2 := (hrk (x n).1 (x n).2).1 hg
    omega) e2
  have w : pt_io (fun n => gr_want A low (x n).1 (x n).2) := by
    intro hw
    have := hp0 (pt_Ev_mono (fun n hn => by
      have : rkx (x n) = 0 := (hrk (x n).1 (x n).2).2.2 hn.1 hn.2
      omega) (pt_Ev_and eg hw))
    exact pt_Ev_not (pt_Ev_mono (fun n hn => by omega) this)
  have b := wt_back (l := fun n => low (x n).2) (a := fun n => A false (x n).1) (b := fun n => A true (x n).1) (fun n => by rw [hx]; exact hlo _ _) w
  refine ⟨b.1, b.2, fun hs => ?_⟩
  exact wt_io (l := fun n => high (x n).2) (fun n => by rw [hx]; exact hhi _ _) hs.1 hs.2 eg
def gr_nd (v : V) (q : Nat × (Bool × Bool)) : V ⊕ ((V × Bool) ⊕ (V × (Bool × Bool))) :=
  match q.1 with
  | 0 => .inr (.inr (v, q.2))
  | 1 => .inr (.inl (v, q.2.1))
  | _ + 2 => .inl v
theorem gr_nd_rk (v : V) (q : Nat × (Bool × Bool)) (h : q.1 ≤ 2) : gr_rk (gr_nd v q) = q.1 := by
  obtain ⟨k, q⟩ := q
  match k, h with
  | 0, _ => rfl
  | 1, _ => rfl
  | 2, _ => rfl
def gr_rel (A s : Bool → V → Prop) (v : V) (q q' : Nat × (Bool × Bool)) : Prop :=
  ∃ jj, (q.1 ≠ 2 → jj = q.2.1) ∧ ((q'.1 = 2 ∧ s jj v) ∨ (q'.1 = 1 ∧ q'.2.1 = jj ∧ ¬ s jj v ∧ A q.2.2 v ∧ q'.2.2 = !q.2.2) ∨ (q'.1 = 0 ∧ q'.2.1 = jj ∧ ¬ s jj v ∧ q'.2.2 = q.2.2))
/-- the formula's opponent, our choices: i alternates -/
theorem gr_step1 (hF : pg_mono F) {P0 : V → Prop} {Q : V ⊕ ((V × Bool) ⊕ (V × (Bool × Bool))) → Prop} {v : V} {q : Nat × (Bool × Bool)} (hq : q.1 ≤ 2) (h0 : F P0 v)
    (h1 : pg_dual (gr_st F A s) Q (gr_nd v q)) : ∃ w q', q'.1 ≤ 2 ∧ P0 w ∧ Q (gr_nd w q') ∧ gr_rel A s v q q' := by
  have hB : ∃ jj, (q.1 ≠ 2 → jj = q.2.1) ∧ ¬ gr_B F A s (fun y => ¬ Q y) jj q.2.2 v := by
    obtain ⟨k, j, i⟩ := q
    match k, hq, h1 with
    | 0, _, h1 => exact ⟨j, fun _ => rfl, h1⟩
    | 1, _, h1 => exact ⟨j, fun _ => rfl, fun h => h1 ⟨i, h⟩⟩
    | 2, _, h1 =>
      refine Classical.byContradiction fun hn => h1 ?_
      intro jj
      exact ⟨i, Classical.byContradiction fun hb => hn ⟨jj, fun e => absurd rfl e, hb⟩⟩
  obtain ⟨jj, hj, hB⟩ := hB
  by_cases hs : s jj v
  · obtain ⟨w, a, b⟩ := pg_meet hF h0 (Q := fun w => Q (.inl w)) (fun h => hB (Or.inl ⟨hs, h⟩))
    exact ⟨w, (2, (jj, q.2.2)), Nat.le_refl _, a, b, jj, hj, Or.inl ⟨rfl, hs⟩⟩
  · by_cases ha : A q.2.2 v
    · obtain ⟨w, a, b⟩ := pg_meet hF h0 (Q := fun w => Q (.inr (.inl (w, jj)))) (fun h => hB (Or.inr (Or.inl h)))
      exact ⟨w, (1, (jj, !q.2.2)), (show 1 ≤ 2 by decide), a, b, jj, hj, Or.inr (Or.inl ⟨rfl, rfl, hs, ha, rfl⟩)⟩
    · obtain ⟨w, a, b⟩ := pg_meet hF h0 (Q := fun w => Q (.inr (.inr (w, (jj, q.2.2))))) (fun h => hB (Or.inr (Or.inr ⟨ha, h⟩)))
      exact ⟨w, (0, (jj, q.2.2)), Nat.zero_le _, a, b, jj, hj, Or.inr (Or.inr ⟨rfl, rfl, hs, rfl⟩)⟩
theorem gr_seq1 {v : Nat → V} {q : Nat → Nat × (Bool × Bool)} (hr : ∀ n, gr_rel A s (v n) (q n) (q (n + 1))) (hq : ∀ n, (q n).1 ≤ 2)
    (hp2 : pt_Ev (fun n => (q n).1 ≤ 2) → pt_Ev (fun n => (q n).1 < 2)) (hp0 : pt_Ev (fun n => (q n).1 ≤ 0) → pt_Ev (fun n => (q n).1 < 0)) :
    pt_io (fun n => A false (v n)) ∧ pt_io (fun n => A true (v n)) ∧ ¬ (pt_io (fun n => s false (v n)) ∧ pt_io (fun n => s true (v n))) := by
  obtain ⟨N, hN⟩ := hp2 (pt_Ev_all hq)
  -- from N on: never 2
  have st : ∀ n, N ≤ n → (q (n + 1)).2.1 = (q n).2.1 ∧ ¬ s (q n).2.1 (v n) ∧ (((q (n + 1)).1 = 1 ∧ A (q n).2.2 (v n) ∧ (q (n + 1)).2.2 = !(q n).2.2) ∨ ((q (n + 1)).1 = 0 ∧ (q (n + 1)).2.2 = (q n).2.2)) := by
    intro n hn
    have a := hN n hn
    have b := hN (n + 1) (by omega)
    obtain ⟨jj, h1, h2⟩ := hr n
    have e := h1 (by omega)
    subst e
    rcases h2 with h2 | h2 | h2
    · omega
    · exact ⟨h2.2.1, h2.2.2.1, Or.inl ⟨h2.1, h2.2.2.2.1, h2.2.2.2.2⟩⟩
    · exact ⟨h2.2.1, h2.2.2.1, Or.inr ⟨h2.1, h2.2.2.2⟩⟩
  have hj : ∀ d, (q (N + d)).2.1 = (q N).2.1 := by
    intro d
    induction d with
    | zero => rfl
    | succ d ih => exact ((st (N + d) (by omega)).1).trans ih
  have hns : pt_Ev (fun n => ¬ s (q N).2.1 (v n)) := by
    refine ⟨N, fun n hn => ?_⟩
    have a := (st n hn).2.1
    have b := hj (n - N)
    rw [show N + (n - N) = n by omega] at b
    rw [b] at a
    exact a
  -- 1 comes again and again
  have h1 : pt_io (fun n => (q n).1 = 1) := by
    intro hn
    have := hp0 (pt_Ev_mono (fun n hn => by
      have a := hn.1
      have b := hn.2
      have c : (q n).1 < 2 := b
      omega) (pt_Ev_and hn (⟨N, hN⟩ : pt_Ev (fun n => (q n).1 < 2))))
    exact pt_Ev_not (pt_Ev_mono (fun n hn => by omega) this)
  have key : ∀ K, N ≤ K → ∃ n, K ≤ n ∧ A (q K).2.2 (v n) ∧ (q (n + 1)).2.2 = !(q K).2.2 := by
    intro K hK
    obtain ⟨n, hn, h1n⟩ := pt_io_get h1 (K + 1)
    -- the first such
    have : ∀ d, (∃ n, K ≤ n ∧ n < K + d ∧ A (q K).2.2 (v n) ∧ (q (n + 1)).2.2 = !(q K).2.2) ∨ ((q (K + d)).2.2 = (q K).2.2 ∧ (0 < d → (q (K + d)).1 ≠ 1)) := by
      intro d
      induction d with
      | zero => exact Or.inr ⟨rfl, fun h => absurd h (by omega)⟩
      | succ d ih =>
        rcases ih with ⟨n, a, b, c⟩ | ih
        · exact Or.inl ⟨n, a, by omega, c⟩
        · rcases (st (K + d) (by omega)).2.2 with h | h
          · refine Or.inl ⟨K + d, by omega, by omega, ?_, ?_⟩
            · rw [← ih.1]
              exact h.2.1
            · rw [← ih.1]
              exact h.2.2
          · refine Or.inr ⟨h.2.trans ih.1, fun _ => ?_⟩
            have := h.1
            show (q (K + d + 1)).1 ≠ 1
            omega
    rcases this (n - K) with ⟨n, a, b, c⟩ | h
    · exact ⟨n, a, c⟩
    · have h2 := h.2 (by omega)
      rw [show K + (n - K) = n by omega] at h2
      exact absurd h1n h2
  have both : ∀ b K, ∃ n, K ≤ n ∧ A b (v n) := by
    intro b K
    obtain ⟨n, hn, a, e⟩ := key (N + K) (by omega)
    by_cases hb : b = (q (N + K)).2.2
    · exact ⟨n, by omega, hb ▸ a⟩
    · obtain ⟨n', hn', a', _⟩ := key (n + 1) (by omega)
      refine ⟨n', by omega, ?_⟩
      have : b = (q (n + 1)).2.2 := by
        rw [e]
        revert hb
        cases b <;> cases (q (N + K)).2.2 <;> decide
      rw [this]
      exact a'
  refine ⟨pt_io_of (both false), pt_io_of (both true), fun hs => ?_⟩
  cases hq2 : (q N).2.1 with
  | false =>
    rw [hq2] at hns
    exact hs.1 hns
  | true =>
    rw [hq2] at hns
    exact hs.2 hns
end
end
section
/-! goals 2 to 5, the other direction, and the whole -/
theorem tg_io {b : Nat → Bool} {T : Nat → Prop} {P : Bool → Nat → Prop} (h : ∀ n, (T n ∧ P (b n) n ∧ b (n + 1) = !b n) ∨ (¬ T n ∧ b (n + 1) = b n)) (hT : pt_io T) (c : Bool) : pt_io (P c) := by
  have key : ∀ K, ∃ n, K ≤ n ∧ P (b K) n ∧ b (n + 1) = !b K := by
    intro K
    obtain ⟨n, hn, hTn⟩ := pt_io_get hT K
    have : ∀ d, (∃ n, K ≤ n ∧ P (b K) n ∧ b (n + 1) = !b K) ∨ (b (K + d) = b K) := by
      intro d
      induction d with
      | zero => exact Or.inr rfl
      | succ d ih =>
        rcases ih with ih | ih
        · exact Or.inl ih
        · rcases h (K + d) with h | h
          · rw [ih] at h
            exact Or.inl ⟨K + d, by omega, h.2.1, h.2.2⟩
          · exact Or.inr (h.2.trans ih)
    rcases this (n - K) with h1 | h1
    · exact h1
    · rw [show K + (n - K) = n by omega] at h1
      rcases h n with h2 | h2
      · rw [h1] at h2
        exact ⟨n, hn, h2.2.1, h2.2.2⟩
      · exact absurd hTn h2.1
  refine pt_io_of fun K => ?_
  obtain ⟨n, hn, a, e⟩ := key K
  by_cases hb : c = b K
  · exact ⟨n, hn, hb ▸ a⟩
  · obtain ⟨n', hn', a', _⟩ := key (n + 1)
    refine ⟨n', by omega, ?_⟩
    have : c = b (n + 1) := by
      rw [e]
      revert hb
      cases c <;> cases b K <;> decide
    rw [this]
    exact a'
section
variable {V M : Type}
variable {F : (V → Prop) → V → Prop} {A s : Bool → V → Prop} {δ : V → M → M} {rkx : V × M → Nat} {low high : M → Prop}
def gr_rel0 (A s : Bool → V → Prop) (v : V) (q q' : Nat × (Bool × Bool)) : Prop :=
  (q'.1 = 2 ∧ s q.2.1 v ∧ q'.2.1 = !q.2.1) ∨ (q'.1 = 1 ∧ q'.2.1 = q.2.1) ∨ (q'.1 = 0 ∧ q'.2.1 = q.2.1 ∧ ¬ A q'.2.2 v ∧ (q.1 = 0 → q'.2.2 = q.2.2))
theorem gr_step0 (hF : pg_mono F) {P1 : V → Prop} {Q : V ⊕ ((V × Bool) ⊕ (V × (Bool × Bool))) → Prop} {v : V} {q : Nat × (Bool × Bool)} (hq : q.1 ≤ 2) (h1 : pg_dual F P1 v)
    (h0 : gr_st F A s Q (gr_nd v q)) : ∃ w q', q'.1 ≤ 2 ∧ P1 w ∧ Q (gr_nd w q') ∧ gr_rel0 A s v q q' := by
  have hB : ∃ ii, (q.1 = 0 → ii = q.2.2) ∧ gr_B F A s Q q.2.1 ii v := by
    obtain ⟨k, j, i⟩ := q
    match k, hq, h0 with
    | 0, _, h0 => exact ⟨i, fun _ => rfl, h0⟩
    | 1, _, ⟨ii, h0⟩ => exact ⟨ii, fun h => absurd h (show ¬ (1 = 0) by decide), h0⟩
    | 2, _, h0 =>
      obtain ⟨ii, h0⟩ := h0 j
      exact ⟨ii, fun h => absurd h (show ¬ (2 = 0) by decide), h0⟩
  obtain ⟨ii, hi, hB⟩ := hB
  rcases hB with hB | hB | hB
  · obtain ⟨w, a, b⟩ := pg_meet hF hB.2 h1
    exact ⟨w, (2, (!q.2.1, ii)), Nat.le_refl _, b, a, Or.inl ⟨rfl, hB.1, rfl⟩⟩
  · obtain ⟨w, a, b⟩ := pg_meet hF hB h1
    exact ⟨w, (1, (q.2.1, ii)), (show 1 ≤ 2 by decide), b, a, Or.inr (Or.inl ⟨rfl, rfl⟩)⟩
  · obtain ⟨w, a, b⟩ := pg_meet hF hB.2 h1
    exact ⟨w, (0, (q.2.1, ii)), Nat.zero_le _, b, a, Or.inr (Or.inr ⟨rfl, rfl, hB.1, hi⟩)⟩
theorem gr_seq0 {v : Nat → V} {q : Nat → Nat × (Bool × Bool)} (hr : ∀ n, gr_rel0 A s (v n) (q n) (q (n + 1))) (hq : ∀ n, (q n).1 ≤ 2)
    (hp : pt_Ev (fun n => (q n).1 ≤ 1) → pt_Ev (fun n => (q n).1 < 1)) (ha : pt_io (fun n => A false (v n))) (hb : pt_io (fun n => A true (v n))) :
    pt_io (fun n => s false (v n)) ∧ pt_io (fun n => s true (v n)) := by
  by_cases h2 : pt_io (fun n => (q (n + 1)).1 = 2)
  · have key : ∀ c, pt_io (fun n => s c (v n)) := by
      refine tg_io (b := fun n => (q n).2.1) (T := fun n => (q (n + 1)).1 = 2) (P := fun c n => s c (v n)) ?_ h2
      intro n
      rcases hr n with h | h | h
      · exact Or.inl ⟨h.1, h.2.1, h.2.2⟩
      · exact Or.inr ⟨fun e => absurd (e.symm.trans h.1) (by decide), h.2⟩
      · exact Or.inr ⟨fun e => absurd (e.symm.trans h.1) (by decide), h.2.1⟩
    exact ⟨key false, key true⟩
  · exfalso
    have e1 : pt_Ev (fun n => (q n).1 ≤ 1) := pt_Ev_p (pt_Ev_mono (fun n hn => by
      have := hq (n + 1)
      show (q (n + 1)).1 ≤ 1
      omega) (pt_nio h2))
    obtain ⟨N, hN⟩ := hp e1
    have st : ∀ n, N ≤ n → ¬ A (q (n + 1)).2.2 (v n) ∧ (q (n + 1)).2.2 = (q n).2.2 := by
      intro n hn
      have a := hN n hn
      have b := hN (n + 1) (by omega)
      rcases hr n with h | h | h
      · omega
      · omega
      · exact ⟨h.2.2.1, h.2.2.2 (by omega)⟩
    have hi : ∀ d, (q (N + d)).2.2 = (q N).2.2 := by
      intro d
      induction d with
      | zero => rfl
      | succ d ih => exact ((st (N + d) (by omega)).2).trans ih
    have hn : pt_Ev (fun n => ¬ A (q N).2.2 (v n)) := by
      refine ⟨N, fun n hn => ?_⟩
      have a := (st n hn).1
      have b := hi (n + 1 - N)
      rw [show N + (n + 1 - N) = n + 1 by omega] at b
      rw [b] at a
      exact a
    cases hq2 : (q N).2.2 with
    | false =>
      rw [hq2] at hn
      exact ha hn
    | true =>
      rw [hq2] at hn
      exact hb hn
theorem gr_main (hF : pg_mono F) {l : List V} (hl : ∀ v, v ∈ l) (hlo : gr_Run δ A low) (hhi : gr_Run δ s high) (hrk : gr_Rank rkx A s low high) {ZX : V × M → Prop}
    (hX : pg_Sv rkx (xa_st F δ) pg_odd 7 ZX) (v : V) (m : M) : ZX (v, m) ↔ gr_Z F A s v := by
  have hr7 : ∀ x, rkx x < 7 := by
    intro x
    by_cases hg : gr_want s high x.1 x.2
    · have : rkx x = 2 := (hrk x.1 x.2).1 hg
      omega
    · by_cases hw : gr_want A low x.1 x.2
      · have : rkx x = 1 := (hrk x.1 x.2).2.1 hg hw
        omega
      · have : rkx x = 0 := (hrk x.1 x.2).2.2 hg hw
        omega
  have hY := gr_Sv3 (F := F) (A := A) (s := s) hF hl
  generalize hZY : (gr_asg (gr_Z F A s) (gr_fY F A s (gr_Z F A s)) (gr_fX F A s (gr_Z F A s) (gr_fY F A s (gr_Z F A s)))) = ZY at hY
  have hZ : ∀ q : Bool × Bool, ∀ w, ZY (gr_nd w (2, q)) = gr_Z F A s w := by
    intro q w
    rw [← hZY]
    rfl
  constructor
  · intro hv
    refine Classical.byContradiction fun hn => ?_
    obtain ⟨m0, _, _, h0⟩ := hX.1
    obtain ⟨m1, _, _, h1⟩ := hY.2
    obtain ⟨f, hf0, hf⟩ := pt_seq (σ := (V × M) × (Nat × (Bool × Bool))) (fun y => ZX y.1 ∧ ¬ ZY (gr_nd y.1.1 y.2) ∧ y.2.1 ≤ 2)
      (fun y y' => pg_dec rkx pg_odd 7 m0 y.1 y'.1 ∧ pg_dec gr_rk (fun s => !pg_odd s) 3 m1 (gr_nd y.1.1 y.2) (gr_nd y'.1.1 y'.2) ∧ y'.1.2 = δ y.1.1 y.1.2 ∧ gr_rel A s y.1.1 y.2 y'.2) (by
        intro y hy
        have a := h0 y.1 hy.1 (hr7 _)
        have b := h1 (gr_nd y.1.1 y.2) hy.2.1 (by rw [gr_nd_rk _ _ hy.2.2]; have := hy.2.2; omega)
        obtain ⟨w, q', hq', hw, hQ, hrel⟩ := gr_step1 hF hy.2.2 a b
        exact ⟨((w, δ y.1.1 y.1.2), q'), ⟨hw.1, hQ.1, hq'⟩, hw.2, hQ.2, rfl, hrel⟩) ((v, m), (2, (false, false))) ⟨hv, by rw [hZ]; exact hn, Nat.le_refl _⟩
    have hd0 : ∀ n, pg_dec rkx pg_odd 7 m0 (f n).1 (f (n + 1)).1 := fun n => (hf n).2.1
    have hd1 : ∀ n, pg_dec gr_rk (fun s => !pg_odd s) 3 m1 (gr_nd (f n).1.1 (f n).2) (gr_nd (f (n + 1)).1.1 (f (n + 1)).2) := fun n => (hf n).2.2.1
    have hrkq : ∀ n, gr_rk (gr_nd (f n).1.1 (f n).2) = (f n).2.1 := fun n => gr_nd_rk _ _ (hf n).1.2.2
    have p1 := pt_par (x := fun n => (f n).1) hd0 (s := 1) (by decide) rfl
    have q2 := pt_par (x := fun n => gr_nd (f n).1.1 (f n).2) hd1 (s := 2) (by decide) rfl
    have q0 := pt_par (x := fun n => gr_nd (f n).1.1 (f n).2) hd1 (s := 0) (by decide) rfl
    simp only [hrkq] at q2 q0
    have c := gr_seq1 (v := fun n => (f n).1.1) (q := fun n => (f n).2) (fun n => (hf n).2.2.2.2) (fun n => (hf n).1.2.2) q2 q0
    exact c.2.2 (gr_x0 hlo hhi hrk (x := fun n => (f n).1) (fun n => (hf n).2.2.2.1) p1 c.1 c.2.1)
  · intro hv
    refine Classical.byContradiction fun hn => ?_
    obtain ⟨m0, _, _, h0⟩ := hX.2
    obtain ⟨m1, _, _, h1⟩ := hY.1
    obtain ⟨f, hf0, hf⟩ := pt_seq (σ := (V × M) × (Nat × (Bool × Bool))) (fun y => ¬ ZX y.1 ∧ ZY (gr_nd y.1.1 y.2) ∧ y.2.1 ≤ 2)
      (fun y y' => pg_dec rkx (fun s => !pg_odd s) 7 m0 y.1 y'.1 ∧ pg_dec gr_rk pg_odd 3 m1 (gr_nd y.1.1 y.2) (gr_nd y'.1.1 y'.2) ∧ y'.1.2 = δ y.1.1 y.1.2 ∧ gr_rel0 A s y.1.1 y.2 y'.2) (by
        intro y hy
        have a := h0 y.1 hy.1 (hr7 _)
        have b := h1 (gr_nd y.1.1 y.2) hy.2.1 (by rw [gr_nd_rk _ _ hy.2.2]; have := hy.2.2; omega)
        rw [xa_dual] at a
        obtain ⟨w, q', hq', hw, hQ, hrel⟩ := gr_step0 hF hy.2.2 a b
        exact ⟨((w, δ y.1.1 y.1.2), q'), ⟨hw.1, hQ.1, hq'⟩, hw.2, hQ.2, rfl, hrel⟩) ((v, m), (2, (false, false))) ⟨hn, by rw [hZ]; exact hv, Nat.le_refl _⟩
    have hd0 : ∀ n, pg_dec rkx (fun s => !pg_odd s) 7 m0 (f n).1 (f (n + 1)).1 := fun n => (hf n).2.1
    have hd1 : ∀ n, pg_dec gr_rk pg_odd 3 m1 (gr_nd (f n).1.1 (f n).2) (gr_nd (f (n + 1)).1.1 (f (n + 1)).2) := fun n => (hf n).2.2.1
    have hrkq : ∀ n, gr_rk (gr_nd (f n).1.1 (f n).2) = (f n).2.1 := fun n => gr_nd_rk _ _ (hf n).1.2.2
    have p2 := pt_par (x := fun n => (f n).1) hd0 (s := 2) (by decide) rfl
    have p0 := pt_par (x := fun n => (f n).1) hd0 (s := 0) (by decide) rfl
    have q1 := pt_par (x := fun n => gr_nd (f n).1.1 (f n).2) hd1 (s := 1) (by decide) rfl
    simp only [hrkq] at q1
    have c := gr_x1 hlo hhi hrk (x := fun n => (f n).1) (fun n => (hf n).2.2.2.1) p2 p0
    exact c.2.2 (gr_seq0 (v := fun n => (f n).1.1) (q := fun n => (f n).2) (fun n => (hf n).2.2.2.2) (fun n => (hf n).1.2.2) q1 c.1 c.2.1)
end
end
section
/-! goals 6 and 7: one of two pairs, green again and again, red not -/
section
variable {V : Type}
abbrev rb_N (V : Type) : Type := V ⊕ ((V × Bool) ⊕ ((V × Bool) ⊕ ((V × Bool) ⊕ (V × Bool))))
def rb_W (R : Bool → V → Prop) (i : Bool) (v : V) : Prop := ¬ R i v ∧ ¬ R (!i) v
def rb_own (F : (V → Prop) → V → Prop) (G R : Bool → V → Prop) (i : Bool) (right y x1 : V → Prop) (v : V) : Prop := (right v ∨ ((¬ R i v ∧ G i v) ∧ F y v)) ∨ (¬ R i v ∧ F x1 v)
def rb_X2 (F : (V → Prop) → V → Prop) (G R : Bool → V → Prop) (i : Bool) (own y : V → Prop) : V → Prop := fx_lfp (fun X v => (own v ∨ ((rb_W R i v ∧ G (!i) v) ∧ F y v)) ∨ (rb_W R i v ∧ F X v))
def rb_Y2 (F : (V → Prop) → V → Prop) (G R : Bool → V → Prop) (i : Bool) (own : V → Prop) : V → Prop := fx_gfp (fun y => rb_X2 F G R i own y)
def rb_X1 (F : (V → Prop) → V → Prop) (G R : Bool → V → Prop) (i : Bool) (right y : V → Prop) : V → Prop := fx_lfp (fun X => rb_Y2 F G R i (rb_own F G R i right y X))
def rb_Y1 (F : (V → Prop) → V → Prop) (G R : Bool → V → Prop) (i : Bool) (right : V → Prop) : V → Prop := fx_gfp (fun y => rb_X1 F G R i right y)
def rb_X0 (F : (V → Prop) → V → Prop) (G R : Bool → V → Prop) : V → Prop := fx_lfp (fun X v => ∃ i, rb_Y1 F G R i (F X) v)
variable {F : (V → Prop) → V → Prop} {G R : Bool → V → Prop}
theorem rb_own_m (hF : pg_mono F) (i : Bool) {r r' y y' x x' : V → Prop} (hr : ∀ v, r v → r' v) (hy : ∀ v, y v → y' v) (hx : ∀ v, x v → x' v) : ∀ v, rb_own F G R i r y x v → rb_own F G R i r' y' x' v := by
  intro v hv
  rcases hv with (hv | hv) | hv
  · exact Or.inl (Or.inl (hr v hv))
  · exact Or.inl (Or.inr ⟨hv.1, hF _ _ hy v hv.2⟩)
  · exact Or.inr ⟨hv.1, hF _ _ hx v hv.2⟩
theorem rb_X2_b (hF : pg_mono F) (i : Bool) (own y : V → Prop) : pg_mono (fun (X : V → Prop) v => (own v ∨ ((rb_W R i v ∧ G (!i) v) ∧ F y v)) ∨ (rb_W R i v ∧ F X v)) := by
  intro S T h v hv
  rcases hv with hv | hv
  · exact Or.inl hv
  · exact Or.inr ⟨hv.1, hF _ _ h v hv.2⟩
theorem rb_X2_m (hF : pg_mono F) (i : Bool) {o o' y y' : V → Prop} (ho : ∀ v, o v → o' v) (hy : ∀ v, y v → y' v) : ∀ v, rb_X2 F G R i o y v → rb_X2 F G R i o' y' v := by
  refine fx_lfp_mono ?_
  intro S v hv
  rcases hv with (hv | hv) | hv
  · exact Or.inl (Or.inl (ho v hv))
  · exact Or.inl (Or.inr ⟨hv.1, hF _ _ hy v hv.2⟩)
  · exact Or.inr hv
theorem rb_Y2_b (hF : pg_mono F) (i : Bool) (own : V → Prop) : pg_mono (fun y => rb_X2 F G R i own y) := fun _ _ h v hv => rb_X2_m hF i (fun _ a => a) h v hv
theorem rb_Y2_m (hF : pg_mono F) (i : Bool) {o o' : V → Prop} (ho : ∀ v, o v → o' v) : ∀ v, rb_Y2 F G R i o v → rb_Y2 F G R i o' v :=
  fx_gfp_mono (fun _ v hv => rb_X2_m hF i ho (fun _ a => a) v hv)
theorem rb_X1_b (hF : pg_mono F) (i : Bool) (right y : V → Prop) : pg_mono (fun X => rb_Y2 F G R i (rb_own F G R i right y X)) :=
  fun _ _ h v hv => rb_Y2_m hF i (rb_own_m hF i (fun _ a => a) (fun _ a => a) h) v hv
theorem rb_X1_m (hF : pg_mono F) (i : Bool) {r r' y y' : V → Prop} (hr : ∀ v, r v → r' v) (hy : ∀ v, y v → y' v) : ∀ v, rb_X1 F G R i r y v → rb_X1 F G R i r' y' v :=
  fx_lfp_mono (fun _ v hv => rb_Y2_m hF i (rb_own_m hF i hr hy (fun _ a => a)) v hv)
theorem rb_Y1_b (hF : pg_mono F) (i : Bool) (right : V → Prop) : pg_mono (fun y => rb_X1 F G R i right y) := fun _ _ h v hv => rb_X1_m hF i (fun _ a => a) h v hv
theorem rb_Y1_m (hF : pg_mono F) (i : Bool) {r r' : V → Prop} (hr : ∀ v, r v → r' v) : ∀ v, rb_Y1 F G R i r v → rb_Y1 F G R i r' v :=
  fx_gfp_mono (fun _ v hv => rb_X1_m hF i hr (fun _ a => a) v hv)
theorem rb_X0_b (hF : pg_mono F) : pg_mono (fun X v => ∃ i, rb_Y1 F G R i (F X) v) := fun _ _ h v ⟨i, hv⟩ => ⟨i, rb_Y1_m hF i (fun w hw => hF _ _ h w hw) v hv⟩
def rb_B (F : (V → Prop) → V → Prop) (G R : Bool → V → Prop) (S : rb_N V → Prop) (i : Bool) (v : V) : Prop :=
  (((F (fun w => S (.inl w)) v ∨ ((¬ R i v ∧ G i v) ∧ F (fun w => S (.inr (.inl (w, i)))) v)) ∨ (¬ R i v ∧ F (fun w => S (.inr (.inr (.inl (w, i))))) v)) ∨ ((rb_W R i v ∧ G (!i) v) ∧ F (fun w => S (.inr (.inr (.inr (.inl (w, i)))))) v)) ∨ (rb_W R i v ∧ F (fun w => S (.inr (.inr (.inr (.inr (w, i)))))) v)
def rb_st (F : (V → Prop) → V → Prop) (G R : Bool → V → Prop) (S : rb_N V → Prop) (x : rb_N V) : Prop :=
  match x with
  | .inl v => ∃ i, rb_B F G R S i v
  | .inr (.inl p) => rb_B F G R S p.2 p.1
  | .inr (.inr (.inl p)) => rb_B F G R S p.2 p.1
  | .inr (.inr (.inr (.inl p))) => rb_B F G R S p.2 p.1
  | .inr (.inr (.inr (.inr p))) => rb_B F G R S p.2 p.1
def rb_rk (x : rb_N V) : Nat :=
  match x with
  | .inl _ => 5
  | .inr (.inl _) => 4
  | .inr (.inr (.inl _)) => 3
  | .inr (.inr (.inr (.inl _))) => 2
  | .inr (.inr (.inr (.inr _))) => 1
def rb_asg (x5 : V → Prop) (x4 x3 x2 x1 : V × Bool → Prop) (x : rb_N V) : Prop :=
  match x with
  | .inl v => x5 v
  | .inr (.inl p) => x4 p
  | .inr (.inr (.inl p)) => x3 p
  | .inr (.inr (.inr (.inl p))) => x2 p
  | .inr (.inr (.inr (.inr p))) => x1 p
theorem rb_B_m (hF : pg_mono F) (i : Bool) {S T : rb_N V → Prop} (h : ∀ x, S x → T x) (v : V) (hv : rb_B F G R S i v) : rb_B F G R T i v := by
  rcases hv with (((hv | hv) | hv) | hv) | hv
  · exact Or.inl (Or.inl (Or.inl (Or.inl (hF _ _ (fun _ hw => h _ hw) v hv))))
  · exact Or.inl (Or.inl (Or.inl (Or.inr ⟨hv.1, hF _ _ (fun _ hw => h _ hw) v hv.2⟩)))
  · exact Or.inl (Or.inl (Or.inr ⟨hv.1, hF _ _ (fun _ hw => h _ hw) v hv.2⟩))
  · exact Or.inl (Or.inr ⟨hv.1, hF _ _ (fun _ hw => h _ hw) v hv.2⟩)
  · exact Or.inr ⟨hv.1, hF _ _ (fun _ hw => h _ hw) v hv.2⟩
theorem rb_st_m (hF : pg_mono F) : pg_mono (rb_st F G R) := by
  intro S T h x hx
  match x, hx with
  | .inl v, hx => exact hx.elim fun i hi => ⟨i, rb_B_m hF i h v hi⟩
  | .inr (.inl p), hx => exact rb_B_m hF p.2 h p.1 hx
  | .inr (.inr (.inl p)), hx => exact rb_B_m hF p.2 h p.1 hx
  | .inr (.inr (.inr (.inl p))), hx => exact rb_B_m hF p.2 h p.1 hx
  | .inr (.inr (.inr (.inr p))), hx => exact rb_B_m hF p.2 h p.1 hx
def rb_sl (S : V × Bool → Prop) (i : Bool) : V → Prop := fun w => S (w, i)
def rb_f1 (F : (V → Prop) → V → Prop) (G R : Bool → V → Prop) (x5 : V → Prop) (x4 x3 x2 : V × Bool → Prop) : V × Bool → Prop :=
  fun p => rb_X2 F G R p.2 (rb_own F G R p.2 (F x5) (rb_sl x4 p.2) (rb_sl x3 p.2)) (rb_sl x2 p.2) p.1
def rb_f2 (F : (V → Prop) → V → Prop) (G R : Bool → V → Prop) (x5 : V → Prop) (x4 x3 : V × Bool → Prop) : V × Bool → Prop :=
  fun p => rb_Y2 F G R p.2 (rb_own F G R p.2 (F x5) (rb_sl x4 p.2) (rb_sl x3 p.2)) p.1
def rb_f3 (F : (V → Prop) → V → Prop) (G R : Bool → V → Prop) (x5 : V → Prop) (x4 : V × Bool → Prop) : V × Bool → Prop :=
  fun p => rb_X1 F G R p.2 (F x5) (rb_sl x4 p.2) p.1
def rb_f4 (F : (V → Prop) → V → Prop) (G R : Bool → V → Prop) (x5 : V → Prop) : V × Bool → Prop := fun p => rb_Y1 F G R p.2 (F x5) p.1
def rb_a1 (F : (V → Prop) → V → Prop) (G R : Bool → V → Prop) (x5 : V → Prop) (x4 x3 x2 : V × Bool → Prop) : rb_N V → Prop := rb_asg x5 x4 x3 x2 (rb_f1 F G R x5 x4 x3 x2)
def rb_a2 (F : (V → Prop) → V → Prop) (G R : Bool → V → Prop) (x5 : V → Prop) (x4 x3 : V × Bool → Prop) : rb_N V → Prop := rb_a1 F G R x5 x4 x3 (rb_f2 F G R x5 x4 x3)
def rb_a3 (F : (V → Prop) → V → Prop) (G R : Bool → V → Prop) (x5 : V → Prop) (x4 : V × Bool → Prop) : rb_N V → Prop := rb_a2 F G R x5 x4 (rb_f3 F G R x5 x4)
def rb_a4 (F : (V → Prop) → V → Prop) (G R : Bool → V → Prop) (x5 : V → Prop) : rb_N V → Prop := rb_a3 F G R x5 (rb_f4 F G R x5)
theorem rb_B1 (hF : pg_mono F) (x5 : V → Prop) (x4 x3 x2 : V × Bool → Prop) (i : Bool) (v : V) : rb_B F G R (rb_a1 F G R x5 x4 x3 x2) i v = rb_X2 F G R i (rb_own F G R i (F x5) (rb_sl x4 i) (rb_sl x3 i)) (rb_sl x2 i) v :=
  congrFun (fx_lfp_fix (rb_X2_b (G := G) (R := R) hF i (rb_own F G R i (F x5) (rb_sl x4 i) (rb_sl x3 i)) (rb_sl x2 i))) v
theorem rb_B2 (hF : pg_mono F) (x5 : V → Prop) (x4 x3 : V × Bool → Prop) (i : Bool) (v : V) : rb_B F G R (rb_a2 F G R x5 x4 x3) i v = rb_Y2 F G R i (rb_own F G R i (F x5) (rb_sl x4 i) (rb_sl x3 i)) v :=
  (rb_B1 hF x5 x4 x3 _ i v).trans (congrFun (fx_gfp_fix (rb_Y2_b (G := G) (R := R) hF i (rb_own F G R i (F x5) (rb_sl x4 i) (rb_sl x3 i)))) v)
theorem rb_B3 (hF : pg_mono F) (x5 : V → Prop) (x4 : V × Bool → Prop) (i : Bool) (v : V) : rb_B F G R (rb_a3 F G R x5 x4) i v = rb_X1 F G R i (F x5) (rb_sl x4 i) v :=
  (rb_B2 hF x5 x4 _ i v).trans (congrFun (fx_lfp_fix (rb_X1_b (G := G) (R := R) hF i (F x5) (rb_sl x4 i))) v)
theorem rb_B4 (hF : pg_mono F) (x5 : V → Prop) (i : Bool) (v : V) : rb_B F G R (rb_a4 F G R x5) i v = rb_Y1 F G R i (F x5) v :=
  (rb_B3 hF x5 _ i v).trans (congrFun (fx_gfp_fix (rb_Y1_b (G := G) (R := R) hF i (F x5))) v)
theorem rb_Sv1 {Z : rb_N V → Prop} : pg_Sv rb_rk (rb_st F G R) pg_odd 1 Z := by
  have h : ∀ x : rb_N V, ¬ rb_rk x < 1 := by
    intro x
    match x with
    | .inl _ => exact (show ¬ (5 < 1) by decide)
    | .inr (.inl _) => exact (show ¬ (4 < 1) by decide)
    | .inr (.inr (.inl _)) => exact (show ¬ (3 < 1) by decide)
    | .inr (.inr (.inr (.inl _))) => exact (show ¬ (2 < 1) by decide)
    | .inr (.inr (.inr (.inr _))) => exact (show ¬ (1 < 1) by decide)
  exact ⟨⟨fun _ _ => 0, 0, fun _ _ => Nat.le_refl _, fun x _ z => absurd z (h x)⟩, ⟨fun _ _ => 0, 0, fun _ _ => Nat.le_refl _, fun x _ z => absurd z (h x)⟩⟩
theorem rb_Sv2 (hF : pg_mono F) {l : List V} (hl : ∀ v, v ∈ l) (x5 : V → Prop) (x4 x3 x2 : V × Bool → Prop) : pg_Sv rb_rk (rb_st F G R) pg_odd 2 (rb_a1 F G R x5 x4 x3 x2) := by
  refine fx_close_mu (rb_st_m hF) (r := 1) rfl (fun p => Sum.inr (Sum.inr (Sum.inr (Sum.inr p)))) ?_ (fun S => rb_asg x5 x4 x3 x2 S) (fun S b => Iff.rfl) ?_ (fun S => rb_Sv1) ?_
  · intro x hx
    match x, hx with
    | .inl _, hx => exact absurd hx (show ¬ (5 = 1) by decide)
    | .inr (.inl _), hx => exact absurd hx (show ¬ (4 = 1) by decide)
    | .inr (.inr (.inl _)), hx => exact absurd hx (show ¬ (3 = 1) by decide)
    | .inr (.inr (.inr (.inl _))), hx => exact absurd hx (show ¬ (2 = 1) by decide)
    | .inr (.inr (.inr (.inr p))), _ => exact ⟨p, rfl⟩
  · intro S T x hx h
    match x, hx, h with
    | .inl _, _, h => exact h
    | .inr (.inl _), _, h => exact h
    | .inr (.inr (.inl _)), _, h => exact h
    | .inr (.inr (.inr (.inl _))), _, h => exact h
    | .inr (.inr (.inr (.inr _))), hx, _ => exact absurd hx (show ¬ (1 + 1 ≤ 1) by decide)
  · exact fx_Mu_prod (f := fun i (X : V → Prop) v => (rb_own F G R i (F x5) (rb_sl x4 i) (rb_sl x3 i) v ∨ ((rb_W R i v ∧ G (!i) v) ∧ F (rb_sl x2 i) v)) ∨ (rb_W R i v ∧ F X v)) (fun i => rb_X2_b hF i _ _) gr_mem2 (fun i => fx_Mu_lfp (rb_X2_b hF i _ _) hl)
theorem rb_Sv3 (hF : pg_mono F) {l : List V} (hl : ∀ v, v ∈ l) (x5 : V → Prop) (x4 x3 : V × Bool → Prop) : pg_Sv rb_rk (rb_st F G R) pg_odd 3 (rb_a2 F G R x5 x4 x3) := by
  refine fx_close_nu (rb_st_m hF) (r := 2) rfl (fun p => Sum.inr (Sum.inr (Sum.inr (Sum.inl p)))) ?_ (fun S => rb_a1 F G R x5 x4 x3 S) (fun S b => Iff.rfl) ?_ (fun S => rb_Sv2 hF hl x5 x4 x3 S) ?_
  · intro x hx
    match x, hx with
    | .inl _, hx => exact absurd hx (show ¬ (5 = 2) by decide)
    | .inr (.inl _), hx => exact absurd hx (show ¬ (4 = 2) by decide)
    | .inr (.inr (.inl _)), hx => exact absurd hx (show ¬ (3 = 2) by decide)
    | .inr (.inr (.inr (.inl p))), _ => exact ⟨p, rfl⟩
    | .inr (.inr (.inr (.inr _))), hx => exact absurd hx (show ¬ (1 = 2) by decide)
  · intro S T x hx h
    match x, hx, h with
    | .inl _, _, h => exact h
    | .inr (.inl _), _, h => exact h
    | .inr (.inr (.inl _)), _, h => exact h
    | .inr (.inr (.inr (.inl _))), hx, _ => exact absurd hx (show ¬ (2 + 1 ≤ 2) by decide)
    | .inr (.inr (.inr (.inr _))), hx, _ => exact absurd hx (show ¬ (2 + 1 ≤ 1) by decide)
  · have e : (fun (S : V × Bool → Prop) (b : V × Bool) => rb_st F G R (rb_a1 F G R x5 x4 x3 S) (Sum.inr (Sum.inr (Sum.inr (Sum.inl b))))) = fx_prod (fun i y => rb_X2 F G R i (rb_own F G R i (F x5) (rb_sl x4 i) (rb_sl x3 i)) y) := by
      funext S b
      exact rb_B1 hF x5 x4 x3 S b.2 b.1
    rw [e]
    exact fx_Nu_prod (fun i => rb_Y2_b hF i _) gr_mem2 (fun i => fx_Nu_gfp (rb_Y2_b hF i _) hl)
theorem rb_Sv4 (hF : pg_mono F) {l : List V} (hl : ∀ v, v ∈ l) (x5 : V → Prop) (x4 : V × Bool → Prop) : pg_Sv rb_rk (rb_st F G R) pg_odd 4 (rb_a3 F G R x5 x4) := by
  refine fx_close_mu (rb_st_m hF) (r := 3) rfl (fun p => Sum.inr (Sum.inr (Sum.inl p))) ?_ (fun S => rb_a2 F G R x5 x4 S) (fun S b => Iff.rfl) ?_ (fun S => rb_Sv3 hF hl x5 x4 S) ?_
  · intro x hx
    match x, hx with
    | .inl _, hx => exact absurd hx (show ¬ (5 = 3) by decide)
    | .inr (.inl _), hx => exact absurd hx (show ¬ (4 = 3) by decide)
    | .inr (.inr (.inl p)), _ => exact ⟨p, rfl⟩
    | .inr (.inr (.inr (.inl _))), hx => exact absurd hx (show ¬ (2 = 3) by decide)
    | .inr (.inr (.inr (.inr _))), hx => exact absurd hx (show ¬ (1 = 3) by decide)
  · intro S T x hx h
    match x, hx, h with
    | .inl _, _, h => exact h
    | .inr (.inl _), _, h => exact h
    | .inr (.inr (.inl _)), hx, _ => exact absurd hx (show ¬ (3 + 1 ≤ 3) by decide)
    | .inr (.inr (.inr (.inl _))), hx, _ => exact absurd hx (show ¬ (3 + 1 ≤ 2) by decide)
    | .inr (.inr (.inr (.inr _))), hx, _ => exact absurd hx (show ¬ (3 + 1 ≤ 1) by decide)
  · have e : (fun (S : V × Bool → Prop) (b : V × Bool) => rb_st F G R (rb_a2 F G R x5 x4 S) (Sum.inr (Sum.inr (Sum.inl b)))) = fx_prod (fun i y => rb_Y2 F G R i (rb_own F G R i (F x5) (rb_sl x4 i) y)) := by
      funext S b
      exact rb_B2 hF x5 x4 S b.2 b.1
    rw [e]
    exact fx_Mu_prod (fun i => rb_X1_b hF i _ _) gr_mem2 (fun i => fx_Mu_lfp (rb_X1_b hF i _ _) hl)
theorem rb_Sv5 (hF : pg_mono F) {l : List V} (hl : ∀ v, v ∈ l) (x5 : V → Prop) : pg_Sv rb_rk (rb_st F G R) pg_odd 5 (rb_a4 F G R x5) := by
  refine fx_close_nu (rb_st_m hF) (r := 4) rfl (fun p => Sum.inr (Sum.inl p)) ?_ (fun S => rb_a3 F G R x5 S) (fun S b => Iff.rfl) ?_ (fun S => rb_Sv4 hF hl x5 S) ?_
  · intro x hx
    match x, hx with
    | .inl _, hx => exact absurd hx (show ¬ (5 = 4) by decide)
    | .inr (.inl p), _ => exact ⟨p, rfl⟩
    | .inr (.inr (.inl _)), hx => exact absurd hx (show ¬ (3 = 4) by decide)
    | .inr (.inr (.inr (.inl _))), hx => exact absurd hx (show ¬ (2 = 4) by decide)
    | .inr (.inr (.inr (.inr _))), hx => exact absurd hx (show ¬ (1 = 4) by decide)
  · intro S T x hx h
    match x, hx, h with
    | .inl _, _, h => exact h
    | .inr (.inl _), hx, _ => exact absurd hx (show ¬ (4 + 1 ≤ 4) by decide)
    | .inr (.inr (.inl _)), hx, _ => exact absurd hx (show ¬ (4 + 1 ≤ 3) by decide)
    | .inr (.inr (.inr (.inl _))), hx, _ => exact absurd hx (show ¬ (4 + 1 ≤ 2) by decide)
    | .inr (.inr (.inr (.inr _))), hx, _ => exact absurd hx (show ¬ (4 + 1 ≤ 1) by decide)
  · have e : (fun (S : V × Bool → Prop) (b : V × Bool) => rb_st F G R (rb_a3 F G R x5 S) (Sum.inr (Sum.inl b))) = fx_prod (fun i y => rb_X1 F G R i (F x5) y) := by
      funext S b
      exact rb_B3 hF x5 S b.2 b.1
    rw [e]
    exact fx_Nu_prod (fun i => rb_Y1_b hF i _) gr_mem2 (fun i => fx_Nu_gfp (rb_Y1_b hF i _) hl)
theorem rb_Sv6 (hF : pg_mono F) {l : List V} (hl : ∀ v, v ∈ l)  : pg_Sv rb_rk (rb_st F G R) pg_odd 6 (rb_a4 F G R (rb_X0 F G R)) := by
  refine fx_close_mu (rb_st_m hF) (r := 5) rfl (fun p => Sum.inl p) ?_ (fun S => rb_a4 F G R S) (fun S b => Iff.rfl) ?_ (fun S => rb_Sv5 hF hl S) ?_
  · intro x hx
    match x, hx with
    | .inl p, _ => exact ⟨p, rfl⟩
    | .inr (.inl _), hx => exact absurd hx (show ¬ (4 = 5) by decide)
    | .inr (.inr (.inl _)), hx => exact absurd hx (show ¬ (3 = 5) by decide)
    | .inr (.inr (.inr (.inl _))), hx => exact absurd hx (show ¬ (2 = 5) by decide)
    | .inr (.inr (.inr (.inr _))), hx => exact absurd hx (show ¬ (1 = 5) by decide)
  · intro S T x hx h
    match x, hx, h with
    | .inl _, hx, _ => exact absurd hx (show ¬ (5 + 1 ≤ 5) by decide)
    | .inr (.inl _), hx, _ => exact absurd hx (show ¬ (5 + 1 ≤ 4) by decide)
    | .inr (.inr (.inl _)), hx, _ => exact absurd hx (show ¬ (5 + 1 ≤ 3) by decide)
    | .inr (.inr (.inr (.inl _))), hx, _ => exact absurd hx (show ¬ (5 + 1 ≤ 2) by decide)
    | .inr (.inr (.inr (.inr _))), hx, _ => exact absurd hx (show ¬ (5 + 1 ≤ 1) by decide)
  · have e : (fun (S : V → Prop) (b : V) => rb_st F G R (rb_a4 F G R S) (Sum.inl b)) = (fun X v => ∃ i, rb_Y1 F G R i (F X) v) := by
      funext S b
      exact congrArg Exists (funext fun i => rb_B4 hF S i b)
    rw [e]
    exact fx_Mu_lfp (rb_X0_b hF) hl
end
end
section
/-! goals 6 and 7: the arena with the memory of the last pair and the formula agree -/
section
variable {V M : Type}
def rb_RK (G R : Bool → V → Prop) (i : Bool) (v : V) (k : Nat) : Prop :=
  (R i v ∧ k = 5) ∨ (¬ R i v ∧ G i v ∧ k = 4) ∨ (¬ R i v ∧ ¬ G i v ∧ R (!i) v ∧ k = 3) ∨ (¬ R i v ∧ ¬ G i v ∧ ¬ R (!i) v ∧ G (!i) v ∧ k = 2) ∨ (¬ R i v ∧ ¬ G i v ∧ ¬ R (!i) v ∧ ¬ G (!i) v ∧ k = 1)
def rb_MM (R : Bool → V → Prop) (i : Bool) (v : V) (i' : Bool) : Prop := (R i v ∧ ¬ R (!i) v ∧ i' = !i) ∨ (¬ (R i v ∧ ¬ R (!i) v) ∧ i' = i)
def rb_nd (v : V) (k : Nat) (i : Bool) : rb_N V :=
  match k with
  | 5 => .inl v
  | 4 => .inr (.inl (v, i))
  | 3 => .inr (.inr (.inl (v, i)))
  | 2 => .inr (.inr (.inr (.inl (v, i))))
  | _ => .inr (.inr (.inr (.inr (v, i))))
theorem rb_nd_rk (v : V) (i : Bool) : ∀ k, 1 ≤ k → k ≤ 5 → rb_rk (rb_nd v k i) = k := by
  intro k h1 h2
  have : k = 1 ∨ k = 2 ∨ k = 3 ∨ k = 4 ∨ k = 5 := by omega
  rcases this with e | e | e | e | e <;> subst e <;> rfl
variable {F : (V → Prop) → V → Prop} {G R : Bool → V → Prop}
theorem rb_nd_st {Q : rb_N V → Prop} {v : V} {i : Bool} : ∀ k, 1 ≤ k → k ≤ 4 → rb_st F G R Q (rb_nd v k i) = rb_B F G R Q i v := by
  intro k h1 h2
  have : k = 1 ∨ k = 2 ∨ k = 3 ∨ k = 4 := by omega
  rcases this with e | e | e | e <;> subst e <;> rfl
theorem rb_RK_b {i : Bool} {v : V} {k : Nat} (h : rb_RK G R i v k) : 1 ≤ k ∧ k ≤ 5 := by
  rcases h with h | h | h | h | h
  · have := h.2
    omega
  · have := h.2.2
    omega
  · have := h.2.2.2
    omega
  · have := h.2.2.2.2
    omega
  · have := h.2.2.2.2
    omega
/-- the formula's opponent: we take the disjunct that the memory names -/
theorem rb_step1 (hF : pg_mono F) {P0 : V → Prop} {Q : rb_N V → Prop} {v : V} {k : Nat} {i i' : Bool} (hk1 : 1 ≤ k) (hk5 : k ≤ 5) (h0 : F P0 v)
    (h1 : pg_dual (rb_st F G R) Q (rb_nd v k i)) (hi : rb_MM R i v i') {k' : Nat} (hk : rb_RK G R i v k') : ∃ w, P0 w ∧ Q (rb_nd w k' i') := by
  have hB : ¬ rb_B F G R (fun y => ¬ Q y) i v := by
    rcases Nat.lt_or_ge k 5 with h | h
    · intro hb
      refine h1 ?_
      rw [rb_nd_st k hk1 (by omega)]
      exact hb
    · have e : k = 5 := by omega
      subst e
      exact fun hb => h1 ⟨i, hb⟩
  have hii : ¬ R i v → i' = i := by
    intro hr
    rcases hi with h | h
    · exact absurd h.1 hr
    · exact h.2
  rcases hk with h | h | h | h | h
  · rw [h.2]
    exact pg_meet hF h0 (Q := fun w => Q (.inl w)) (fun z => hB (Or.inl (Or.inl (Or.inl (Or.inl z)))))
  · rw [h.2.2, hii h.1]
    exact pg_meet hF h0 (Q := fun w => Q (.inr (.inl (w, i)))) (fun z => hB (Or.inl (Or.inl (Or.inl (Or.inr ⟨⟨h.1, h.2.1⟩, z⟩)))))
  · rw [h.2.2.2, hii h.1]
    exact pg_meet hF h0 (Q := fun w => Q (.inr (.inr (.inl (w, i))))) (fun z => hB (Or.inl (Or.inl (Or.inr ⟨h.1, z⟩))))
  · rw [h.2.2.2.2, hii h.1]
    exact pg_meet hF h0 (Q := fun w => Q (.inr (.inr (.inr (.inl (w, i)))))) (fun z => hB (Or.inl (Or.inr ⟨⟨⟨h.1, h.2.2.1⟩, h.2.2.2.1⟩, z⟩)))
  · rw [h.2.2.2.2, hii h.1]
    exact pg_meet hF h0 (Q := fun w => Q (.inr (.inr (.inr (.inr (w, i)))))) (fun z => hB (Or.inr ⟨⟨h.1, h.2.2.1⟩, z⟩))
def rb_rel (G R : Bool → V → Prop) (v : V) (q q' : Nat × Bool) : Prop :=
  (q.1 ≠ 5 → q'.2 = q.2) ∧ (q'.1 = 5 ∨ (q'.1 = 4 ∧ ¬ R q'.2 v ∧ G q'.2 v) ∨ (q'.1 = 3 ∧ ¬ R q'.2 v) ∨ (q'.1 = 2 ∧ ¬ R q'.2 v ∧ ¬ R (!q'.2) v ∧ G (!q'.2) v) ∨ (q'.1 = 1 ∧ ¬ R q'.2 v ∧ ¬ R (!q'.2) v))
theorem rb_step0 (hF : pg_mono F) {P1 : V → Prop} {Q : rb_N V → Prop} {v : V} {q : Nat × Bool} (hk1 : 1 ≤ q.1) (hk5 : q.1 ≤ 5) (h1 : pg_dual F P1 v)
    (h0 : rb_st F G R Q (rb_nd v q.1 q.2)) : ∃ w q', (1 ≤ q'.1 ∧ q'.1 ≤ 5) ∧ P1 w ∧ Q (rb_nd w q'.1 q'.2) ∧ rb_rel G R v q q' := by
  have hB : ∃ ii, (q.1 ≠ 5 → ii = q.2) ∧ rb_B F G R Q ii v := by
    obtain ⟨k, i⟩ := q
    rcases Nat.lt_or_ge k 5 with h | h
    · refine ⟨i, fun _ => rfl, ?_⟩
      rw [rb_nd_st k hk1 (by omega)] at h0
      exact h0
    · have e : k = 5 := Nat.le_antisymm hk5 h
      subst e
      obtain ⟨ii, h0⟩ := h0
      exact ⟨ii, fun h => absurd rfl h, h0⟩
  obtain ⟨ii, hi, hB⟩ := hB
  rcases hB with (((h | h) | h) | h) | h
  · obtain ⟨w, a, b⟩ := pg_meet hF h h1
    exact ⟨w, (5, ii), ⟨(show 1 ≤ 5 by decide), (show 5 ≤ 5 by decide)⟩, b, a, hi, Or.inl rfl⟩
  · obtain ⟨w, a, b⟩ := pg_meet hF h.2 h1
    exact ⟨w, (4, ii), ⟨(show 1 ≤ 4 by decide), (show 4 ≤ 5 by decide)⟩, b, a, hi, Or.inr (Or.inl ⟨rfl, h.1.1, h.1.2⟩)⟩
  · obtain ⟨w, a, b⟩ := pg_meet hF h.2 h1
    exact ⟨w, (3, ii), ⟨(show 1 ≤ 3 by decide), (show 3 ≤ 5 by decide)⟩, b, a, hi, Or.inr (Or.inr (Or.inl ⟨rfl, h.1⟩))⟩
  · obtain ⟨w, a, b⟩ := pg_meet hF h.2 h1
    exact ⟨w, (2, ii), ⟨(show 1 ≤ 2 by decide), (show 2 ≤ 5 by decide)⟩, b, a, hi, Or.inr (Or.inr (Or.inr (Or.inl ⟨rfl, h.1.1.1, h.1.1.2, h.1.2⟩)))⟩
  · obtain ⟨w, a, b⟩ := pg_meet hF h.2 h1
    exact ⟨w, (1, ii), ⟨(show 1 ≤ 1 by decide), (show 1 ≤ 5 by decide)⟩, b, a, hi, Or.inr (Or.inr (Or.inr (Or.inr ⟨rfl, h.1.1, h.1.2⟩)))⟩
theorem rb_seq0 {v : Nat → V} {q : Nat → Nat × Bool} (hr : ∀ n, rb_rel G R (v n) (q n) (q (n + 1))) (hq : ∀ n, 1 ≤ (q n).1 ∧ (q n).1 ≤ 5)
    (hp : ∀ s, s < 6 → pg_odd s = true → pt_Ev (fun n => (q n).1 ≤ s) → pt_Ev (fun n => (q n).1 < s)) : ∃ i, pt_io (fun n => G i (v n)) ∧ pt_Ev (fun n => ¬ R i (v n)) := by
  obtain ⟨N, hN⟩ := hp 5 (by decide) rfl (pt_Ev_all fun n => (hq n).2)
  have hi : ∀ d, (q (N + d)).2 = (q N).2 := by
    intro d
    induction d with
    | zero => rfl
    | succ d ih => exact ((hr (N + d)).1 (by have := hN (N + d) (by omega); omega)).trans ih
  have hi2 : ∀ n, N ≤ n → (q n).2 = (q N).2 := by
    intro n hn
    have := hi (n - N)
    rw [show N + (n - N) = n by omega] at this
    exact this
  have hi' : ∀ n, N ≤ n → ¬ R (q N).2 (v n) ∧ ((q (n + 1)).1 = 4 → G (q N).2 (v n)) ∧ ((q (n + 1)).1 < 3 → ¬ R (!(q N).2) (v n)) ∧ ((q (n + 1)).1 = 2 → G (!(q N).2) (v n)) := by
    intro n hn
    have a := hN (n + 1) (by omega)
    have b := (hr n).2
    rw [hi2 (n + 1) (by omega)] at b
    rcases b with b | b | b | b | b
    · omega
    · exact ⟨b.2.1, fun _ => b.2.2, fun h => by omega, fun h => by omega⟩
    · exact ⟨b.2, fun h => by omega, fun h => by omega, fun h => by omega⟩
    · exact ⟨b.2.1, fun h => by omega, fun _ => b.2.2.1, fun _ => b.2.2.2⟩
    · exact ⟨b.2.1, fun h => by omega, fun _ => b.2.2, fun h => by omega⟩
  by_cases h4 : pt_io (fun n => (q (n + 1)).1 = 4)
  · exact ⟨(q N).2, pt_io_mono (fun n hn => (hi' n hn.2).2.1 hn.1) (pt_io_and h4 (⟨N, fun n hn => hn⟩ : pt_Ev (fun n => N ≤ n))), ⟨N, fun n hn => (hi' n hn).1⟩⟩
  · have e3 : pt_Ev (fun n => (q n).1 ≤ 3) := pt_Ev_p (pt_Ev_mono (fun n hn => by
      have a := hN (n + 1) (by have := hn.2; omega)
      have b := hn.1
      show (q (n + 1)).1 ≤ 3
      omega) (pt_Ev_and (pt_nio h4) (⟨N, fun n hn => hn⟩ : pt_Ev (fun n => N ≤ n))))
    obtain ⟨K, hK⟩ := hp 3 (by decide) rfl e3
    have hR : pt_Ev (fun n => ¬ R (!(q N).2) (v n)) := ⟨N + K, fun n hn => (hi' n (by omega)).2.2.1 (hK (n + 1) (by omega))⟩
    by_cases h2 : pt_io (fun n => (q (n + 1)).1 = 2)
    · exact ⟨!(q N).2, pt_io_mono (fun n hn => (hi' n hn.2).2.2.2 hn.1) (pt_io_and h2 (⟨N, fun n hn => hn⟩ : pt_Ev (fun n => N ≤ n))), hR⟩
    · exfalso
      have e1 : pt_Ev (fun n => (q n).1 ≤ 1) := pt_Ev_p (pt_Ev_mono (fun n hn => by
        have a := hK (n + 1) (by have := hn.2; omega)
        have b := hn.1
        show (q (n + 1)).1 ≤ 1
        omega) (pt_Ev_and (pt_nio h2) (⟨K, fun n hn => hn⟩ : pt_Ev (fun n => K ≤ n))))
      exact pt_Ev_not (pt_Ev_mono (fun n hn => by have := (hq n).1; omega) (hp 1 (by decide) rfl e1))
theorem rb_seqX {v : Nat → V} {L : Nat → Bool} {k : Nat → Nat} (hk : ∀ n, rb_RK G R (L n) (v n) (k n)) (hL : ∀ n, rb_MM R (L n) (v n) (L (n + 1)))
    (hp : ∀ s, s < 6 → pg_odd s = false → pt_Ev (fun n => k n ≤ s) → pt_Ev (fun n => k n < s)) (i : Bool) (hG : pt_io (fun n => G i (v n))) (hR : pt_Ev (fun n => ¬ R i (v n))) : False := by
  obtain ⟨N, hN⟩ := hR
  have stay : ∀ n, N ≤ n → L n = i → L (n + 1) = i := by
    intro n hn e
    rcases hL n with h | h
    · rw [e] at h
      exact absurd h.1 (hN n hn)
    · exact h.2.trans e
  by_cases hh : ∃ n, N ≤ n ∧ L n = i
  · obtain ⟨K, hK, e⟩ := hh
    have hLi : ∀ d, L (K + d) = i := by
      intro d
      induction d with
      | zero => exact e
      | succ d ih => exact stay (K + d) (by omega) ih
    have hLi' : ∀ n, K ≤ n → L n = i := by
      intro n hn
      have := hLi (n - K)
      rw [show K + (n - K) = n by omega] at this
      exact this
    have e4 : pt_Ev (fun n => k n ≤ 4) := ⟨K, fun n hn => by
      have a := hk n
      rw [hLi' n hn] at a
      have b := (rb_RK_b a).2
      rcases a with a | a | a | a | a
      · exact absurd a.1 (hN n (by omega))
      · have := a.2.2
        omega
      · have := a.2.2.2
        omega
      · have := a.2.2.2.2
        omega
      · have := a.2.2.2.2
        omega⟩
    have e3 := hp 4 (by decide) rfl e4
    refine hG (pt_Ev_mono ?_ (pt_Ev_and e3 (⟨K, fun n hn => hn⟩ : pt_Ev (fun n => K ≤ n))))
    intro n hn hg
    have a := hk n
    rw [hLi' n hn.2] at a
    have hlt : k n < 4 := hn.1
    rcases a with a | a | a | a | a
    · exact hN n (by have := hn.2; omega) a.1
    · have := a.2.2
      omega
    · exact a.2.1 hg
    · exact a.2.1 hg
    · exact a.2.1 hg
  · have hLn : ∀ n, N ≤ n → L n = !i := by
      intro n hn
      have : L n ≠ i := fun e => hh ⟨n, hn, e⟩
      revert this
      cases L n <;> cases i <;> decide
    have hRo : ∀ n, N ≤ n → ¬ R (!i) (v n) := by
      intro n hn hr
      have e1 := hLn n hn
      have e2 := hLn (n + 1) (by omega)
      rcases hL n with h | h
      · rw [e1] at h
        have := h.2.2
        rw [e2] at this
        revert this
        cases i <;> decide
      · rw [e1, Bool.not_not] at h
        exact h.1 ⟨hr, hN n hn⟩
    have facts : ∀ n, N ≤ n → (k n = 4 ∨ (k n = 2 ∧ ¬ G (!i) (v n)) ∨ (k n = 1 ∧ ¬ G i (v n))) := by
      intro n hn
      have a := hk n
      rw [hLn n hn] at a
      unfold rb_RK at a
      rw [Bool.not_not] at a
      rcases a with a | a | a | a | a
      · exact absurd a.1 (hRo n hn)
      · exact Or.inl a.2.2
      · exact absurd a.2.2.1 (hN n hn)
      · exact Or.inr (Or.inl ⟨a.2.2.2.2, a.2.1⟩)
      · exact Or.inr (Or.inr ⟨a.2.2.2.2, a.2.2.2.1⟩)
    have e4 : pt_Ev (fun n => k n ≤ 4) := ⟨N, fun n hn => by
      rcases facts n hn with h | h | h
      · omega
      · have := h.1
        omega
      · have := h.1
        omega⟩
    obtain ⟨K, hK⟩ := hp 4 (by decide) rfl e4
    have e2 : pt_Ev (fun n => k n ≤ 2) := ⟨N + K, fun n hn => by
      have a := hK n (by omega)
      rcases facts n (by omega) with h | h | h
      · omega
      · have := h.1
        omega
      · have := h.1
        omega⟩
    obtain ⟨J, hJ⟩ := hp 2 (by decide) rfl e2
    refine hG ⟨N + J, fun n hn hg => ?_⟩
    have a := hJ n (by omega)
    rcases facts n (by omega) with h | h | h
    · omega
    · have := h.1
      omega
    · exact h.2 hg
theorem rb_main (hF : pg_mono F) {l : List V} (hl : ∀ v, v ∈ l) {δ : V → M → M} {rkx : V × M → Nat} {lst : M → Bool} {e : Nat} (he : e ≤ 1) {bad : Nat → Bool} (hbad : ∀ k, bad (k + e) = pg_odd k)
    (hlst : ∀ v m, rb_MM R (lst m) v (lst (δ v m))) (hrk : ∀ v m, ∃ k, rb_RK G R (lst m) v k ∧ rkx (v, m) = k + e) {ZX : V × M → Prop}
    (hX : pg_Sv rkx (xa_st F δ) bad 7 ZX) (v : V) (m : M) : ZX (v, m) ↔ rb_X0 F G R v := by
  have hr7 : ∀ x, rkx x < 7 := by
    intro x
    obtain ⟨k, hk, hx⟩ := hrk x.1 x.2
    have := (rb_RK_b hk).2
    have hx' : rkx x = k + e := hx
    omega
  have hY := rb_Sv6 (F := F) (G := G) (R := R) hF hl
  generalize hZY : (rb_a4 F G R (rb_X0 F G R)) = ZY at hY
  have hZ : ∀ i w, ZY (rb_nd w 5 i) = rb_X0 F G R w := by
    intro i w
    rw [← hZY]
    rfl
  constructor
  · intro hv
    refine Classical.byContradiction fun hn => ?_
    obtain ⟨m0, _, _, h0⟩ := hX.1
    obtain ⟨m1, _, _, h1⟩ := hY.2
    obtain ⟨f, hf0, hf⟩ := pt_seq (σ := (V × M) × Nat) (fun y => ZX y.1 ∧ ¬ ZY (rb_nd y.1.1 y.2 (lst y.1.2)) ∧ 1 ≤ y.2 ∧ y.2 ≤ 5)
      (fun y y' => pg_dec rkx bad 7 m0 y.1 y'.1 ∧ pg_dec rb_rk (fun s => !pg_odd s) 6 m1 (rb_nd y.1.1 y.2 (lst y.1.2)) (rb_nd y'.1.1 y'.2 (lst y'.1.2)) ∧ rkx y.1 = y'.2 + e) (by
        intro y hy
        have a := h0 y.1 hy.1 (hr7 _)
        have b := h1 (rb_nd y.1.1 y.2 (lst y.1.2)) hy.2.1 (by rw [rb_nd_rk _ _ _ hy.2.2.1 hy.2.2.2]; have := hy.2.2.2; omega)
        obtain ⟨k, hk, hx⟩ := hrk y.1.1 y.1.2
        obtain ⟨w, hw, hQ⟩ := rb_step1 hF hy.2.2.1 hy.2.2.2 a b (hlst y.1.1 y.1.2) hk
        exact ⟨((w, δ y.1.1 y.1.2), k), ⟨hw.1, hQ.1, rb_RK_b hk⟩, hw.2, hQ.2, hx⟩) ((v, m), 5) ⟨hv, by rw [hZ]; exact hn, (show 1 ≤ 5 by decide), Nat.le_refl _⟩
    have hd0 : ∀ n, pg_dec rkx bad 7 m0 (f n).1 (f (n + 1)).1 := fun n => (hf n).2.1
    have hd1 : ∀ n, pg_dec rb_rk (fun s => !pg_odd s) 6 m1 (rb_nd (f n).1.1 (f n).2 (lst (f n).1.2)) (rb_nd (f (n + 1)).1.1 (f (n + 1)).2 (lst (f (n + 1)).1.2)) := fun n => (hf n).2.2.1
    have hrkq : ∀ n, rb_rk (rb_nd (f n).1.1 (f n).2 (lst (f n).1.2)) = (f n).2 := fun n => rb_nd_rk _ _ _ (hf n).1.2.2.1 (hf n).1.2.2.2
    have hrkx : ∀ n, rkx (f n).1 = (f (n + 1)).2 + e := fun n => (hf n).2.2.2
    have down : ∀ s, s < 6 → pt_Ev (fun n => (f n).2 ≤ s) → pt_Ev (fun n => (f n).2 < s) := by
      intro s hs hev
      cases ho : pg_odd s with
      | true =>
        have p := pt_par (x := fun n => (f n).1) hd0 (s := s + e) (by omega) (by rw [hbad]; exact ho)
        simp only [hrkx] at p
        refine pt_Ev_p (pt_Ev_mono (fun n hn => ?_) (p (pt_Ev_mono (fun n hn => ?_) (pt_Ev_s hev))))
        · show (f (n + 1)).2 < s
          omega
        · omega
      | false =>
        have p := pt_par (x := fun n => rb_nd (f n).1.1 (f n).2 (lst (f n).1.2)) hd1 (s := s) hs (by show (!pg_odd s) = true; rw [ho]; rfl)
        simp only [hrkq] at p
        exact p hev
    have e5 := down 5 (by decide) (pt_Ev_all fun n => (hf n).1.2.2.2)
    have e4 := down 4 (by decide) (pt_Ev_mono (fun n hn => by omega) e5)
    have e3 := down 3 (by decide) (pt_Ev_mono (fun n hn => by omega) e4)
    have e2 := down 2 (by decide) (pt_Ev_mono (fun n hn => by omega) e3)
    have e1 := down 1 (by decide) (pt_Ev_mono (fun n hn => by omega) e2)
    exact pt_Ev_not (pt_Ev_mono (fun n hn => by have := (hf n).1.2.2.1; omega) e1)
  · intro hv
    refine Classical.byContradiction fun hn => ?_
    obtain ⟨m0, _, _, h0⟩ := hX.2
    obtain ⟨m1, _, _, h1⟩ := hY.1
    obtain ⟨f, hf0, hf⟩ := pt_seq (σ := (V × M) × (Nat × Bool)) (fun y => ¬ ZX y.1 ∧ ZY (rb_nd y.1.1 y.2.1 y.2.2) ∧ 1 ≤ y.2.1 ∧ y.2.1 ≤ 5)
      (fun y y' => pg_dec rkx (fun s => !bad s) 7 m0 y.1 y'.1 ∧ pg_dec rb_rk pg_odd 6 m1 (rb_nd y.1.1 y.2.1 y.2.2) (rb_nd y'.1.1 y'.2.1 y'.2.2) ∧ y'.1.2 = δ y.1.1 y.1.2 ∧ rb_rel G R y.1.1 y.2 y'.2) (by
        intro y hy
        have a := h0 y.1 hy.1 (hr7 _)
        have b := h1 (rb_nd y.1.1 y.2.1 y.2.2) hy.2.1 (by rw [rb_nd_rk _ _ _ hy.2.2.1 hy.2.2.2]; have := hy.2.2.2; omega)
        rw [xa_dual] at a
        obtain ⟨w, q', hq', hw, hQ, hrel⟩ := rb_step0 hF hy.2.2.1 hy.2.2.2 a b
        exact ⟨((w, δ y.1.1 y.1.2), q'), ⟨hw.1, hQ.1, hq'⟩, hw.2, hQ.2, rfl, hrel⟩) ((v, m), (5, false)) ⟨hn, by rw [hZ]; exact hv, (show 1 ≤ 5 by decide), Nat.le_refl _⟩
    have hd0 : ∀ n, pg_dec rkx (fun s => !bad s) 7 m0 (f n).1 (f (n + 1)).1 := fun n => (hf n).2.1
    have hd1 : ∀ n, pg_dec rb_rk pg_odd 6 m1 (rb_nd (f n).1.1 (f n).2.1 (f n).2.2) (rb_nd (f (n + 1)).1.1 (f (n + 1)).2.1 (f (n + 1)).2.2) := fun n => (hf n).2.2.1
    have hrkq : ∀ n, rb_rk (rb_nd (f n).1.1 (f n).2.1 (f n).2.2) = (f n).2.1 := fun n => rb_nd_rk _ _ _ (hf n).1.2.2.1 (hf n).1.2.2.2
    obtain ⟨i, hG, hR⟩ := rb_seq0 (v := fun n => (f n).1.1) (q := fun n => (f n).2) (fun n => (hf n).2.2.2.2) (fun n => (hf n).1.2.2) (by
      intro s hs ho hev
      have p := pt_par (x := fun n => rb_nd (f n).1.1 (f n).2.1 (f n).2.2) hd1 (s := s) hs ho
      simp only [hrkq] at p
      exact p hev)
    have hkk : ∀ n, ∃ k, rb_RK G R (lst (f n).1.2) (f n).1.1 k ∧ rkx (f n).1 = k + e := fun n => hrk _ _
    refine rb_seqX (v := fun n => (f n).1.1) (L := fun n => lst (f n).1.2) (k := fun n => Classical.choose (hkk n)) (fun n => (Classical.choose_spec (hkk n)).1) (fun n => ?_) ?_ i hG hR
    · have := hlst (f n).1.1 (f n).1.2
      rw [← (hf n).2.2.2.1] at this
      exact this
    · intro s hs ho hev
      have p := pt_par (x := fun n => (f n).1) hd0 (s := s + e) (by omega) (by show (!bad (s + e)) = true; rw [hbad, ho]; rfl)
      refine pt_Ev_mono (fun n hn => ?_) (p (pt_Ev_mono (fun n hn => ?_) hev))
      · have := (Classical.choose_spec (hkk n)).2
        omega
      · have := (Classical.choose_spec (hkk n)).2
        omega
end
end
section
/-! goals 0 and 8: a until b, and on for ever; goal 1: within a for ever -/
section
variable {V M : Type}
def un_T (F : (V → Prop) → V → Prop) : V → Prop := fx_lfp F
def un_S (F : (V → Prop) → V → Prop) : V → Prop := fx_gfp F
def un_R (F : (V → Prop) → V → Prop) (b a : V → Prop) : V → Prop := fx_lfp (fun X v => ((b v ∧ un_S F v) ∨ un_T F v) ∨ (a v ∧ F X v))
def un_G (F : (V → Prop) → V → Prop) (a : V → Prop) : V → Prop := fx_gfp (fun X v => un_T F v ∨ (a v ∧ F X v))
variable {F : (V → Prop) → V → Prop} {a b : V → Prop}
theorem un_Sf (hF : pg_mono F) : F (un_S F) = un_S F := fx_gfp_fix hF
theorem un_Tf (hF : pg_mono F) : F (un_T F) = un_T F := fx_lfp_fix hF
theorem un_Rm (hF : pg_mono F) (c a : V → Prop) : pg_mono (fun X v => c v ∨ (a v ∧ F X v)) := by
  intro S T h v hv
  rcases hv with hv | hv
  · exact Or.inl hv
  · exact Or.inr ⟨hv.1, hF _ _ h v hv.2⟩
def un_st (F : (V → Prop) → V → Prop) (b a : V → Prop) (S : V ⊕ (V ⊕ V) → Prop) (x : V ⊕ (V ⊕ V)) : Prop :=
  match x with
  | .inl v => F (fun w => S (.inl w)) v
  | .inr (.inl v) => F (fun w => S (.inr (.inl w))) v
  | .inr (.inr v) => ((b v ∧ F (fun w => S (.inl w)) v) ∨ F (fun w => S (.inr (.inl w))) v) ∨ (a v ∧ F (fun w => S (.inr (.inr w))) v)
def un_rk (x : V ⊕ (V ⊕ V)) : Nat :=
  match x with
  | .inl _ => 0
  | .inr _ => 1
def un_asg (s : V → Prop) (t : V ⊕ V → Prop) (x : V ⊕ (V ⊕ V)) : Prop :=
  match x with
  | .inl v => s v
  | .inr p => t p
theorem un_st_m (hF : pg_mono F) : pg_mono (un_st F b a) := by
  intro S T h x hx
  match x, hx with
  | .inl v, hx => exact hF _ _ (fun _ hw => h _ hw) v hx
  | .inr (.inl v), hx => exact hF _ _ (fun _ hw => h _ hw) v hx
  | .inr (.inr v), hx =>
    rcases hx with (hx | hx) | hx
    · exact Or.inl (Or.inl ⟨hx.1, hF _ _ (fun _ hw => h _ hw) v hx.2⟩)
    · exact Or.inl (Or.inr (hF _ _ (fun _ hw => h _ hw) v hx))
    · exact Or.inr ⟨hx.1, hF _ _ (fun _ hw => h _ hw) v hx.2⟩
theorem un_Sv1 (hF : pg_mono F) {l : List V} (hl : ∀ v, v ∈ l) (t : V ⊕ V → Prop) : pg_Sv un_rk (un_st F b a) pg_odd 1 (un_asg (un_S F) t) := by
  refine fx_close_nu (un_st_m hF) (r := 0) rfl (fun p => Sum.inl p) ?_ (fun S => un_asg S t) (fun S b => Iff.rfl) ?_ (fun S => pg_Sv_0) (fx_Nu_gfp hF hl)
  · intro x hx
    match x, hx with
    | .inl p, _ => exact ⟨p, rfl⟩
    | .inr _, hx => exact absurd hx (show ¬ (1 = 0) by decide)
  · intro S T x hx h
    match x, hx, h with
    | .inl _, hx, _ => exact absurd hx (show ¬ (0 + 1 ≤ 0) by decide)
    | .inr _, _, h => exact h
theorem un_Sv2 (hF : pg_mono F) {l : List V} (hl : ∀ v, v ∈ l) : pg_Sv un_rk (un_st F b a) pg_odd 2 (un_asg (un_S F) (Sum.elim (un_T F) (un_R F b a))) := by
  refine fx_close_mu (un_st_m hF) (r := 1) rfl (fun p => Sum.inr p) ?_ (fun S => un_asg (un_S F) S) (fun S b => Iff.rfl) ?_ (fun S => un_Sv1 hF hl S) ?_
  · intro x hx
    match x, hx with
    | .inl _, hx => exact absurd hx (show ¬ (0 = 1) by decide)
    | .inr p, _ => exact ⟨p, rfl⟩
  · intro S T x hx h
    match x, hx, h with
    | .inl _, hx, _ => exact absurd hx (show ¬ (1 + 1 ≤ 0) by decide)
    | .inr _, hx, _ => exact absurd hx (show ¬ (1 + 1 ≤ 1) by decide)
  · have h := fx_Mu_seq (f := F) (g := fun t X v => ((b v ∧ F (un_S F) v) ∨ F t v) ∨ (a v ∧ F X v)) (T := un_T F) (R := un_R F b a) (fx_Mu_lfp hF hl) (by
      rw [un_Sf hF, un_Tf hF]
      exact fx_Mu_lfp (un_Rm hF _ a) hl)
    have e : (fun (S : V ⊕ V → Prop) p => Sum.elim (fun v => F (fun w => S (Sum.inl w)) v) (fun v => (((b v ∧ F (un_S F) v) ∨ F (fun w => S (Sum.inl w)) v) ∨ (a v ∧ F (fun w => S (Sum.inr w)) v))) p) = fun (S : V ⊕ V → Prop) p => un_st F b a (un_asg (un_S F) S) (Sum.inr p) := by
      funext S p
      cases p <;> rfl
    rw [← e]
    exact h
def un_nd (v : V) (q : Nat) : V ⊕ (V ⊕ V) :=
  match q with
  | 0 => .inl v
  | 1 => .inr (.inl v)
  | _ => .inr (.inr v)
theorem un_nd_rk (v : V) (q : Nat) : un_rk (un_nd v q) ≤ 1 ∧ (un_rk (un_nd v q) = 0 ↔ q = 0) := by
  match q with
  | 0 => exact ⟨Nat.zero_le _, Iff.rfl⟩
  | 1 => exact ⟨Nat.le_refl _, (show 1 = 0 ↔ 1 = 0 from Iff.rfl)⟩
  | n + 2 => exact ⟨Nat.le_refl _, ⟨fun h => absurd (show (1 : Nat) = 0 from h) (by decide), fun h => absurd h (by omega)⟩⟩
/-- what the memories op (still to come), dn (come), ls (lost) do -/
def un_Run (δ : V → M → M) (rkx : V × M → Nat) (b a : V → Prop) (op dn ls : M → Prop) : Prop :=
  (∀ v m, op m → b v → dn (δ v m) ∧ rkx (v, m) = 2) ∧ (∀ v m, op m → ¬ b v → a v → op (δ v m) ∧ rkx (v, m) = 1) ∧ (∀ v m, op m → ¬ b v → ¬ a v → ls (δ v m) ∧ rkx (v, m) = 1)
  ∧ (∀ v m, dn m → dn (δ v m) ∧ rkx (v, m) = 2) ∧ (∀ v m, ls m → ls (δ v m) ∧ rkx (v, m) = 1)
theorem un_rk12 {δ : V → M → M} {rkx : V × M → Nat} {op dn ls : M → Prop} (h : un_Run δ rkx b a op dn ls) (x : V × M) (hm : op x.2 ∨ dn x.2 ∨ ls x.2) : (rkx x = 1 ∨ rkx x = 2) ∧ (op (δ x.1 x.2) ∨ dn (δ x.1 x.2) ∨ ls (δ x.1 x.2)) := by
  rcases hm with hm | hm | hm
  · by_cases hb : b x.1
    · have := h.1 x.1 x.2 hm hb
      exact ⟨Or.inr this.2, Or.inr (Or.inl this.1)⟩
    · by_cases ha : a x.1
      · have := h.2.1 x.1 x.2 hm hb ha
        exact ⟨Or.inl this.2, Or.inl this.1⟩
      · have := h.2.2.1 x.1 x.2 hm hb ha
        exact ⟨Or.inl this.2, Or.inr (Or.inr this.1)⟩
  · have := h.2.2.2.1 x.1 x.2 hm
    exact ⟨Or.inr this.2, Or.inr (Or.inl this.1)⟩
  · have := h.2.2.2.2 x.1 x.2 hm
    exact ⟨Or.inl this.2, Or.inr (Or.inr this.1)⟩
theorem un_main (hF : pg_mono F) {l : List V} (hl : ∀ v, v ∈ l) {δ : V → M → M} {rkx : V × M → Nat} {op dn ls : M → Prop} (hrun : un_Run δ rkx b a op dn ls) {ZX : V × M → Prop}
    (hX : pg_Sv rkx (xa_st F δ) pg_odd 7 ZX) (v : V) (m : M) (hm : op m) : ZX (v, m) ↔ un_R F b a v := by
  have hY := un_Sv2 (F := F) (b := b) (a := a) hF hl
  generalize hZY : (un_asg (un_S F) (Sum.elim (un_T F) (un_R F b a))) = ZY at hY
  have hZ : ∀ w, ZY (un_nd w 2) = un_R F b a w := by
    intro w
    rw [← hZY]
    rfl
  constructor
  · intro hv
    refine Classical.byContradiction fun hn => ?_
    obtain ⟨m0, _, _, h0⟩ := hX.1
    obtain ⟨m1, _, _, h1⟩ := hY.2
    obtain ⟨f, hf0, hf⟩ := pt_seq (σ := (V × M) × Nat) (fun y => ZX y.1 ∧ ¬ ZY (un_nd y.1.1 y.2) ∧ ((y.2 = 0 ∧ dn y.1.2) ∨ (y.2 = 1 ∧ ls y.1.2) ∨ (y.2 = 2 ∧ op y.1.2)))
      (fun y y' => pg_dec rkx pg_odd 7 m0 y.1 y'.1 ∧ pg_dec un_rk (fun s => !pg_odd s) 2 m1 (un_nd y.1.1 y.2) (un_nd y'.1.1 y'.2) ∧ (rkx y.1 = 2 → y'.2 = 0) ∧ (y.2 = 0 → y'.2 = 0) ∧ (rkx y.1 = 1 ∨ rkx y.1 = 2)) (by
        intro ⟨⟨v, m⟩, q⟩ hy
        have hmm : op m ∨ dn m ∨ ls m := by
          rcases hy.2.2 with h | h | h
          · exact Or.inr (Or.inl h.2)
          · exact Or.inr (Or.inr h.2)
          · exact Or.inl h.2
        have hrr := (un_rk12 hrun (v, m) hmm).1
        have A := h0 (v, m) hy.1 (by omega)
        have B := h1 (un_nd v q) hy.2.1 (by have := (un_nd_rk v q).1; omega)
        rcases hy.2.2 with h | h | h
        · obtain ⟨e, hd⟩ := h
          change q = 0 at e
          subst e
          obtain ⟨w, hw, hQ⟩ := pg_meet hF A (Q := fun w => ¬ ZY (un_nd w 0) ∧ pg_dec un_rk (fun s => !pg_odd s) 2 m1 (un_nd v 0) (un_nd w 0)) B
          have := hrun.2.2.2.1 v m hd
          exact ⟨((w, δ v m), 0), ⟨hw.1, hQ.1, Or.inl ⟨rfl, this.1⟩⟩, hw.2, hQ.2, fun _ => rfl, fun _ => rfl, hrr⟩
        · obtain ⟨e, hd⟩ := h
          change q = 1 at e
          subst e
          obtain ⟨w, hw, hQ⟩ := pg_meet hF A (Q := fun w => ¬ ZY (un_nd w 1) ∧ pg_dec un_rk (fun s => !pg_odd s) 2 m1 (un_nd v 1) (un_nd w 1)) B
          have := hrun.2.2.2.2 v m hd
          exact ⟨((w, δ v m), 1), ⟨hw.1, hQ.1, Or.inr (Or.inl ⟨rfl, this.1⟩)⟩, hw.2, hQ.2, fun e => absurd (this.2.symm.trans e) (by decide), fun e => absurd e (show ¬ (1 = 0) by decide), hrr⟩
        · obtain ⟨e, hd⟩ := h
          change q = 2 at e
          subst e
          by_cases hb : b v
          · have := hrun.1 v m hd hb
            obtain ⟨w, hw, hQ⟩ := pg_meet hF A (Q := fun w => ¬ ZY (un_nd w 0) ∧ pg_dec un_rk (fun s => !pg_odd s) 2 m1 (un_nd v 2) (un_nd w 0)) (fun z => B (Or.inl (Or.inl ⟨hb, z⟩)))
            exact ⟨((w, δ v m), 0), ⟨hw.1, hQ.1, Or.inl ⟨rfl, this.1⟩⟩, hw.2, hQ.2, fun _ => rfl, fun _ => rfl, hrr⟩
          · by_cases ha : a v
            · have := hrun.2.1 v m hd hb ha
              obtain ⟨w, hw, hQ⟩ := pg_meet hF A (Q := fun w => ¬ ZY (un_nd w 2) ∧ pg_dec un_rk (fun s => !pg_odd s) 2 m1 (un_nd v 2) (un_nd w 2)) (fun z => B (Or.inr ⟨ha, z⟩))
              exact ⟨((w, δ v m), 2), ⟨hw.1, hQ.1, Or.inr (Or.inr ⟨rfl, this.1⟩)⟩, hw.2, hQ.2, fun e => absurd (this.2.symm.trans e) (by decide), fun e => absurd e (show ¬ (2 = 0) by decide), hrr⟩
            · have := hrun.2.2.1 v m hd hb ha
              obtain ⟨w, hw, hQ⟩ := pg_meet hF A (Q := fun w => ¬ ZY (un_nd w 1) ∧ pg_dec un_rk (fun s => !pg_odd s) 2 m1 (un_nd v 2) (un_nd w 1)) (fun z => B (Or.inl (Or.inr z)))
              exact ⟨((w, δ v m), 1), ⟨hw.1, hQ.1, Or.inr (Or.inl ⟨rfl, this.1⟩)⟩, hw.2, hQ.2, fun e => absurd (this.2.symm.trans e) (by decide), fun e => absurd e (show ¬ (2 = 0) by decide), hrr⟩)
      ((v, m), 2) ⟨hv, by rw [hZ]; exact hn, Or.inr (Or.inr ⟨rfl, hm⟩)⟩
    have hd0 : ∀ n, pg_dec rkx pg_odd 7 m0 (f n).1 (f (n + 1)).1 := fun n => (hf n).2.1
    have hd1 : ∀ n, pg_dec un_rk (fun s => !pg_odd s) 2 m1 (un_nd (f n).1.1 (f n).2) (un_nd (f (n + 1)).1.1 (f (n + 1)).2) := fun n => (hf n).2.2.1
    have p1 := pt_par (x := fun n => (f n).1) hd0 (s := 1) (by decide) rfl
    have q0 := pt_par (x := fun n => un_nd (f n).1.1 (f n).2) hd1 (s := 0) (by decide) rfl
    by_cases h2 : ∃ n, rkx (f n).1 = 2
    · obtain ⟨n, h2⟩ := h2
      have z : ∀ d, (f (n + 1 + d)).2 = 0 := by
        intro d
        induction d with
        | zero => exact (hf n).2.2.2.1 h2
        | succ d ih => exact (hf (n + 1 + d)).2.2.2.2.1 ih
      have e0 : pt_Ev (fun n => un_rk (un_nd (f n).1.1 (f n).2) ≤ 0) := ⟨n + 1, fun k hk => by
        have e := z (k - (n + 1))
        rw [show n + 1 + (k - (n + 1)) = k by omega] at e
        have := ((un_nd_rk (f k).1.1 (f k).2).2).mpr e
        omega⟩
      exact pt_Ev_not (pt_Ev_mono (fun n hn => by omega) (q0 e0))
    · have e1 : ∀ n, rkx (f n).1 = 1 := by
        intro n
        rcases (hf n).2.2.2.2.2 with h | h
        · exact h
        · exact absurd ⟨n, h⟩ h2
      exact pt_Ev_not (pt_Ev_mono (fun n hn => by have := e1 n; omega) (p1 (pt_Ev_all fun n => by have := e1 n; omega)))
  · intro hv
    refine Classical.byContradiction fun hn => ?_
    obtain ⟨m0, _, _, h0⟩ := hX.2
    obtain ⟨m1, _, _, h1⟩ := hY.1
    obtain ⟨f, hf0, hf⟩ := pt_seq (σ := (V × M) × Nat) (fun y => ¬ ZX y.1 ∧ ZY (un_nd y.1.1 y.2) ∧ (op y.1.2 ∨ dn y.1.2 ∨ ls y.1.2) ∧ (y.2 = 0 → dn y.1.2) ∧ (y.2 = 2 → op y.1.2 ∨ dn y.1.2) ∧ y.2 ≤ 2)
      (fun y y' => pg_dec rkx (fun s => !pg_odd s) 7 m0 y.1 y'.1 ∧ pg_dec un_rk pg_odd 2 m1 (un_nd y.1.1 y.2) (un_nd y'.1.1 y'.2)) (by
        intro ⟨⟨v, m⟩, q⟩ ⟨hy0, hy1, hy2, hy3, hy4, hy5⟩
        have hrr := un_rk12 hrun (v, m) hy2
        have A := h0 (v, m) hy0 (by have := hrr.1; omega)
        have B := h1 (un_nd v q) hy1 (by have := (un_nd_rk v q).1; omega)
        rw [xa_dual] at A
        have hq : q = 0 ∨ q = 1 ∨ q = 2 := by
          change q ≤ 2 at hy5
          omega
        rcases hq with e | e | e
        · subst e
          obtain ⟨w, hQ, hw⟩ := pg_meet hF (P := fun w => ZY (un_nd w 0) ∧ pg_dec un_rk pg_odd 2 m1 (un_nd v 0) (un_nd w 0)) B A
          have := hrun.2.2.2.1 v m (hy3 rfl)
          exact ⟨((w, δ v m), 0), ⟨hw.1, hQ.1, hrr.2, fun _ => this.1, fun e => absurd e (show ¬ (0 = 2) by decide), Nat.zero_le _⟩, hw.2, hQ.2⟩
        · subst e
          obtain ⟨w, hQ, hw⟩ := pg_meet hF (P := fun w => ZY (un_nd w 1) ∧ pg_dec un_rk pg_odd 2 m1 (un_nd v 1) (un_nd w 1)) B A
          exact ⟨((w, δ v m), 1), ⟨hw.1, hQ.1, hrr.2, fun e => absurd e (show ¬ (1 = 0) by decide), fun e => absurd e (show ¬ (1 = 2) by decide), (show 1 ≤ 2 by decide)⟩, hw.2, hQ.2⟩
        · subst e
          have hod := hy4 rfl
          rcases B with (B | B) | B
          · obtain ⟨w, hQ, hw⟩ := pg_meet hF (P := fun w => ZY (un_nd w 0) ∧ pg_dec un_rk pg_odd 2 m1 (un_nd v 2) (un_nd w 0)) B.2 A
            have hdn : dn (δ v m) := by
              rcases hod with h | h
              · exact (hrun.1 v m h B.1).1
              · exact (hrun.2.2.2.1 v m h).1
            exact ⟨((w, δ v m), 0), ⟨hw.1, hQ.1, hrr.2, fun _ => hdn, fun e => absurd e (show ¬ (0 = 2) by decide), Nat.zero_le _⟩, hw.2, hQ.2⟩
          · obtain ⟨w, hQ, hw⟩ := pg_meet hF (P := fun w => ZY (un_nd w 1) ∧ pg_dec un_rk pg_odd 2 m1 (un_nd v 2) (un_nd w 1)) B A
            exact ⟨((w, δ v m), 1), ⟨hw.1, hQ.1, hrr.2, fun e => absurd e (show ¬ (1 = 0) by decide), fun e => absurd e (show ¬ (1 = 2) by decide), (show 1 ≤ 2 by decide)⟩, hw.2, hQ.2⟩
          · obtain ⟨w, hQ, hw⟩ := pg_meet hF (P := fun w => ZY (un_nd w 2) ∧ pg_dec un_rk pg_odd 2 m1 (un_nd v 2) (un_nd w 2)) B.2 A
            have hod2 : op (δ v m) ∨ dn (δ v m) := by
              rcases hod with h | h
              · by_cases hb : b v
                · exact Or.inr (hrun.1 v m h hb).1
                · exact Or.inl (hrun.2.1 v m h hb B.1).1
              · exact Or.inr (hrun.2.2.2.1 v m h).1
            exact ⟨((w, δ v m), 2), ⟨hw.1, hQ.1, hrr.2, fun e => absurd e (show ¬ (2 = 0) by decide), fun _ => hod2, Nat.le_refl _⟩, hw.2, hQ.2⟩)
      ((v, m), 2) ⟨hn, by rw [hZ]; exact hv, Or.inl hm, fun e => absurd e (show ¬ (2 = 0) by decide), fun _ => Or.inl hm, Nat.le_refl _⟩
    have hd0 : ∀ n, pg_dec rkx (fun s => !pg_odd s) 7 m0 (f n).1 (f (n + 1)).1 := fun n => (hf n).2.1
    have hd1 : ∀ n, pg_dec un_rk pg_odd 2 m1 (un_nd (f n).1.1 (f n).2) (un_nd (f (n + 1)).1.1 (f (n + 1)).2) := fun n => (hf n).2.2
    have p2 := pt_par (x := fun n => (f n).1) hd0 (s := 2) (by decide) rfl
    have q1 := pt_par (x := fun n => un_nd (f n).1.1 (f n).2) hd1 (s := 1) (by decide) rfl
    have e0 := q1 (pt_Ev_all fun n => (un_nd_rk _ _).1)
    have e2 := p2 (pt_Ev_all fun n => by
      have := (un_rk12 hrun (f n).1 (hf n).1.2.2.1).1
      omega)
    refine pt_Ev_not (pt_Ev_mono (fun n hn => ?_) (pt_Ev_and e0 e2))
    have z : (f n).2 = 0 := ((un_nd_rk (f n).1.1 (f n).2).2).mp (by have := hn.1; omega)
    have := (hrun.2.2.2.1 (f n).1.1 (f n).1.2 ((hf n).1.2.2.2.1 z)).2
    have h2 : rkx (f n).1 = 2 := this
    have := hn.2
    omega
end
end
section
/-! goal 1: within a for ever -/
section
variable {V M : Type}
variable {F : (V → Prop) → V → Prop} {a : V → Prop}
def sy_st (F : (V → Prop) → V → Prop) (a : V → Prop) (S : V ⊕ V → Prop) (x : V ⊕ V) : Prop :=
  match x with
  | .inl v => F (fun w => S (.inr w)) v ∨ (a v ∧ F (fun w => S (.inl w)) v)
  | .inr v => F (fun w => S (.inr w)) v
def sy_rk (x : V ⊕ V) : Nat :=
  match x with
  | .inl _ => 0
  | .inr _ => 1
def sy_asg (s t : V → Prop) (x : V ⊕ V) : Prop :=
  match x with
  | .inl v => s v
  | .inr v => t v
theorem sy_st_m (hF : pg_mono F) : pg_mono (sy_st F a) := by
  intro S T h x hx
  match x, hx with
  | .inl v, hx =>
    rcases hx with hx | hx
    · exact Or.inl (hF _ _ (fun _ hw => h _ hw) v hx)
    · exact Or.inr ⟨hx.1, hF _ _ (fun _ hw => h _ hw) v hx.2⟩
  | .inr v, hx => exact hF _ _ (fun _ hw => h _ hw) v hx
theorem sy_Sv1 (hF : pg_mono F) {l : List V} (hl : ∀ v, v ∈ l) (t : V → Prop) : pg_Sv sy_rk (sy_st F a) pg_odd 1 (sy_asg (fx_gfp (fun X v => F t v ∨ (a v ∧ F X v))) t) := by
  refine fx_close_nu (sy_st_m hF) (r := 0) rfl (fun p => Sum.inl p) ?_ (fun S => sy_asg S t) (fun S b => Iff.rfl) ?_ (fun S => pg_Sv_0) (fx_Nu_gfp (un_Rm hF (F t) a) hl)
  · intro x hx
    match x, hx with
    | .inl p, _ => exact ⟨p, rfl⟩
    | .inr _, hx => exact absurd hx (show ¬ (1 = 0) by decide)
  · intro S T x hx h
    match x, hx, h with
    | .inl _, hx, _ => exact absurd hx (show ¬ (0 + 1 ≤ 0) by decide)
    | .inr _, _, h => exact h
theorem sy_Sv2 (hF : pg_mono F) {l : List V} (hl : ∀ v, v ∈ l) : pg_Sv sy_rk (sy_st F a) pg_odd 2 (sy_asg (un_G F a) (un_T F)) := by
  have h := fx_close_mu (sy_st_m (a := a) hF) (bad := pg_odd) (r := 1) rfl (fun p => Sum.inr p) (by
      intro x hx
      match x, hx with
      | .inl _, hx => exact absurd hx (show ¬ (0 = 1) by decide)
      | .inr p, _ => exact ⟨p, rfl⟩) (fun S => sy_asg (fx_gfp (fun X v => F S v ∨ (a v ∧ F X v))) S) (fun S b => Iff.rfl) (by
      intro S T x hx h
      match x, hx, h with
      | .inl _, hx, _ => exact absurd hx (show ¬ (1 + 1 ≤ 0) by decide)
      | .inr _, hx, _ => exact absurd hx (show ¬ (1 + 1 ≤ 1) by decide)) (fun S => sy_Sv1 hF hl S) (L := un_T F) (fx_Mu_lfp hF hl)
  have h2 : pg_Sv sy_rk (sy_st F a) pg_odd 2 (sy_asg (fx_gfp (fun X v => F (un_T F) v ∨ (a v ∧ F X v))) (un_T F)) := h
  rw [un_Tf hF] at h2
  exact h2
def sy_nd (v : V) (q : Nat) : V ⊕ V :=
  match q with
  | 0 => .inl v
  | _ => .inr v
theorem sy_nd_rk (v : V) (q : Nat) : sy_rk (sy_nd v q) ≤ 1 ∧ (sy_rk (sy_nd v q) = 0 ↔ q = 0) := by
  match q with
  | 0 => exact ⟨Nat.zero_le _, Iff.rfl⟩
  | n + 1 => exact ⟨Nat.le_refl _, ⟨fun h => absurd (show (1 : Nat) = 0 from h) (by decide), fun h => absurd h (by omega)⟩⟩
def sy_Run (δ : V → M → M) (rkx : V × M → Nat) (a : V → Prop) (op ls : M → Prop) : Prop :=
  (∀ v m, op m → a v → op (δ v m) ∧ rkx (v, m) = 2) ∧ (∀ v m, op m → ¬ a v → ls (δ v m) ∧ rkx (v, m) = 1) ∧ (∀ v m, ls m → ls (δ v m) ∧ rkx (v, m) = 1)
theorem sy_rk12 {δ : V → M → M} {rkx : V × M → Nat} {op ls : M → Prop} (h : sy_Run δ rkx a op ls) (x : V × M) (hm : op x.2 ∨ ls x.2) : (rkx x = 1 ∨ rkx x = 2) ∧ (op (δ x.1 x.2) ∨ ls (δ x.1 x.2)) := by
  rcases hm with hm | hm
  · by_cases ha : a x.1
    · have := h.1 x.1 x.2 hm ha
      exact ⟨Or.inr this.2, Or.inl this.1⟩
    · have := h.2.1 x.1 x.2 hm ha
      exact ⟨Or.inl this.2, Or.inr this.1⟩
  · have := h.2.2 x.1 x.2 hm
    exact ⟨Or.inl this.2, Or.inr this.1⟩
theorem sy_main (hF : pg_mono F) {l : List V} (hl : ∀ v, v ∈ l) {δ : V → M → M} {rkx : V × M → Nat} {op ls : M → Prop} (hrun : sy_Run δ rkx a op ls) {ZX : V × M → Prop}
    (hX : pg_Sv rkx (xa_st F δ) pg_odd 7 ZX) (v : V) (m : M) (hm : op m) : ZX (v, m) ↔ un_G F a v := by
  have hY := sy_Sv2 (F := F) (a := a) hF hl
  generalize hZY : (sy_asg (un_G F a) (un_T F)) = ZY at hY
  have hZ : ∀ w, ZY (sy_nd w 0) = un_G F a w := by
    intro w
    rw [← hZY]
    rfl
  constructor
  · intro hv
    refine Classical.byContradiction fun hn => ?_
    obtain ⟨m0, _, _, h0⟩ := hX.1
    obtain ⟨m1, _, _, h1⟩ := hY.2
    obtain ⟨f, hf0, hf⟩ := pt_seq (σ := (V × M) × Nat) (fun y => ZX y.1 ∧ ¬ ZY (sy_nd y.1.1 y.2) ∧ ((y.2 = 0 ∧ op y.1.2) ∨ (y.2 = 1 ∧ ls y.1.2)))
      (fun y y' => pg_dec rkx pg_odd 7 m0 y.1 y'.1 ∧ pg_dec sy_rk (fun s => !pg_odd s) 2 m1 (sy_nd y.1.1 y.2) (sy_nd y'.1.1 y'.2) ∧ (y.2 = 1 → y'.2 = 1 ∧ rkx y.1 = 1)) (by
        intro ⟨⟨v, m⟩, q⟩ hy
        have hmm : op m ∨ ls m := by
          rcases hy.2.2 with h | h
          · exact Or.inl h.2
          · exact Or.inr h.2
        have hrr := (sy_rk12 hrun (v, m) hmm).1
        have A := h0 (v, m) hy.1 (by omega)
        have B := h1 (sy_nd v q) hy.2.1 (by have := (sy_nd_rk v q).1; omega)
        rcases hy.2.2 with h | h
        · obtain ⟨e, hd⟩ := h
          change q = 0 at e
          subst e
          by_cases ha : a v
          · have := hrun.1 v m hd ha
            obtain ⟨w, hw, hQ⟩ := pg_meet hF A (Q := fun w => ¬ ZY (sy_nd w 0) ∧ pg_dec sy_rk (fun s => !pg_odd s) 2 m1 (sy_nd v 0) (sy_nd w 0)) (fun z => B (Or.inr ⟨ha, z⟩))
            exact ⟨((w, δ v m), 0), ⟨hw.1, hQ.1, Or.inl ⟨rfl, this.1⟩⟩, hw.2, hQ.2, fun e => absurd e (show ¬ (0 = 1) by decide)⟩
          · have := hrun.2.1 v m hd ha
            obtain ⟨w, hw, hQ⟩ := pg_meet hF A (Q := fun w => ¬ ZY (sy_nd w 1) ∧ pg_dec sy_rk (fun s => !pg_odd s) 2 m1 (sy_nd v 0) (sy_nd w 1)) (fun z => B (Or.inl z))
            exact ⟨((w, δ v m), 1), ⟨hw.1, hQ.1, Or.inr ⟨rfl, this.1⟩⟩, hw.2, hQ.2, fun e => absurd e (show ¬ (0 = 1) by decide)⟩
        · obtain ⟨e, hd⟩ := h
          change q = 1 at e
          subst e
          have := hrun.2.2 v m hd
          obtain ⟨w, hw, hQ⟩ := pg_meet hF A (Q := fun w => ¬ ZY (sy_nd w 1) ∧ pg_dec sy_rk (fun s => !pg_odd s) 2 m1 (sy_nd v 1) (sy_nd w 1)) B
          exact ⟨((w, δ v m), 1), ⟨hw.1, hQ.1, Or.inr ⟨rfl, this.1⟩⟩, hw.2, hQ.2, fun _ => ⟨rfl, this.2⟩⟩)
      ((v, m), 0) ⟨hv, by rw [hZ]; exact hn, Or.inl ⟨rfl, hm⟩⟩
    have hd0 : ∀ n, pg_dec rkx pg_odd 7 m0 (f n).1 (f (n + 1)).1 := fun n => (hf n).2.1
    have hd1 : ∀ n, pg_dec sy_rk (fun s => !pg_odd s) 2 m1 (sy_nd (f n).1.1 (f n).2) (sy_nd (f (n + 1)).1.1 (f (n + 1)).2) := fun n => (hf n).2.2.1
    have p1 := pt_par (x := fun n => (f n).1) hd0 (s := 1) (by decide) rfl
    have q0 := pt_par (x := fun n => sy_nd (f n).1.1 (f n).2) hd1 (s := 0) (by decide) rfl
    by_cases h2 : ∃ n, (f n).2 = 1
    · obtain ⟨n, h2⟩ := h2
      have z : ∀ d, (f (n + d)).2 = 1 := by
        intro d
        induction d with
        | zero => exact h2
        | succ d ih => exact ((hf (n + d)).2.2.2 ih).1
      have e1 : ∀ k, n ≤ k → rkx (f k).1 = 1 := by
        intro k hk
        have e := z (k - n)
        rw [show n + (k - n) = k by omega] at e
        exact ((hf k).2.2.2 e).2
      have e2 := p1 ⟨n, fun k hk => by have := e1 k hk; omega⟩
      exact pt_Ev_not (pt_Ev_mono (fun k hk => by have := e1 k hk.2; have := hk.1; omega) (pt_Ev_and e2 (⟨n, fun k hk => hk⟩ : pt_Ev (fun k => n ≤ k))))
    · have e0 : ∀ n, sy_rk (sy_nd (f n).1.1 (f n).2) = 0 := by
        intro n
        rcases (hf n).1.2.2 with h | h
        · exact ((sy_nd_rk _ _).2).mpr h.1
        · exact absurd ⟨n, h.1⟩ h2
      exact pt_Ev_not (pt_Ev_mono (fun n hn => by omega) (q0 (pt_Ev_all fun n => by have := e0 n; omega)))
  · intro hv
    refine Classical.byContradiction fun hn => ?_
    obtain ⟨m0, _, _, h0⟩ := hX.2
    obtain ⟨m1, _, _, h1⟩ := hY.1
    obtain ⟨f, hf0, hf⟩ := pt_seq (σ := (V × M) × Nat) (fun y => ¬ ZX y.1 ∧ ZY (sy_nd y.1.1 y.2) ∧ (op y.1.2 ∨ ls y.1.2) ∧ (y.2 = 0 → op y.1.2) ∧ y.2 ≤ 1)
      (fun y y' => pg_dec rkx (fun s => !pg_odd s) 7 m0 y.1 y'.1 ∧ pg_dec sy_rk pg_odd 2 m1 (sy_nd y.1.1 y.2) (sy_nd y'.1.1 y'.2) ∧ (y'.2 = 0 → rkx y.1 = 2)) (by
        intro ⟨⟨v, m⟩, q⟩ ⟨hy0, hy1, hy2, hy3, hy5⟩
        have hrr := sy_rk12 hrun (v, m) hy2
        have A := h0 (v, m) hy0 (by have := hrr.1; omega)
        have B := h1 (sy_nd v q) hy1 (by have := (sy_nd_rk v q).1; omega)
        rw [xa_dual] at A
        have hq : q = 0 ∨ q = 1 := by
          change q ≤ 1 at hy5
          omega
        rcases hq with e | e
        · subst e
          rcases B with B | B
          · obtain ⟨w, hQ, hw⟩ := pg_meet hF (P := fun w => ZY (sy_nd w 1) ∧ pg_dec sy_rk pg_odd 2 m1 (sy_nd v 0) (sy_nd w 1)) B A
            exact ⟨((w, δ v m), 1), ⟨hw.1, hQ.1, hrr.2, fun e => absurd e (show ¬ (1 = 0) by decide), Nat.le_refl _⟩, hw.2, hQ.2, fun e => absurd e (show ¬ (1 = 0) by decide)⟩
          · obtain ⟨w, hQ, hw⟩ := pg_meet hF (P := fun w => ZY (sy_nd w 0) ∧ pg_dec sy_rk pg_odd 2 m1 (sy_nd v 0) (sy_nd w 0)) B.2 A
            have := hrun.1 v m (hy3 rfl) B.1
            exact ⟨((w, δ v m), 0), ⟨hw.1, hQ.1, hrr.2, fun _ => this.1, Nat.zero_le _⟩, hw.2, hQ.2, fun _ => this.2⟩
        · subst e
          obtain ⟨w, hQ, hw⟩ := pg_meet hF (P := fun w => ZY (sy_nd w 1) ∧ pg_dec sy_rk pg_odd 2 m1 (sy_nd v 1) (sy_nd w 1)) B A
          exact ⟨((w, δ v m), 1), ⟨hw.1, hQ.1, hrr.2, fun e => absurd e (show ¬ (1 = 0) by decide), Nat.le_refl _⟩, hw.2, hQ.2, fun e => absurd e (show ¬ (1 = 0) by decide)⟩)
      ((v, m), 0) ⟨hn, by rw [hZ]; exact hv, Or.inl hm, fun _ => hm, Nat.zero_le _⟩
    have hd0 : ∀ n, pg_dec rkx (fun s => !pg_odd s) 7 m0 (f n).1 (f (n + 1)).1 := fun n => (hf n).2.1
    have hd1 : ∀ n, pg_dec sy_rk pg_odd 2 m1 (sy_nd (f n).1.1 (f n).2) (sy_nd (f (n + 1)).1.1 (f (n + 1)).2) := fun n => (hf n).2.2.1
    have p2 := pt_par (x := fun n => (f n).1) hd0 (s := 2) (by decide) rfl
    have q1 := pt_par (x := fun n => sy_nd (f n).1.1 (f n).2) hd1 (s := 1) (by decide) rfl
    have e0 := q1 (pt_Ev_all fun n => (sy_nd_rk _ _).1)
    have e2 := p2 (pt_Ev_all fun n => by
      have := (sy_rk12 hrun (f n).1 (hf n).1.2.2.1).1
      omega)
    refine pt_Ev_not (pt_Ev_mono (fun n hn => ?_) (pt_Ev_and (pt_Ev_s e0) e2))
    have z : (f (n + 1)).2 = 0 := ((sy_nd_rk (f (n + 1)).1.1 (f (n + 1)).2).2).mp (by have := hn.1; omega)
    have h2 := (hf n).2.2.2 z
    have := hn.2
    omega
end
end
section
/-! masks as sets, what can be forced, while loops over masks -/
theorem ms_one : ∀ i, i < 32 → bt 1 i = decide (i = 0) := by decide +kernel
theorem ms_and1 (y : Int32) : y &&& 1 = if bt y 0 = true then 1 else 0 := by
  apply b_ext
  intro i hi
  rw [b_and, ms_one i hi]
  by_cases h : bt y 0 = true
  · rw [if_pos h, ms_one i hi]
    by_cases h0 : i = 0
    · subst h0
      rw [h]
      rfl
    · simp [h0]
  · rw [if_neg h, b_0]
    by_cases h0 : i = 0
    · subst h0
      simp [h]
    · simp [h0]
theorem ms_test (x : Int32) {v : Nat} (hv : v < 32) : (x >>> (nI v &&& 31)) &&& 1 = if bt x v = true then 1 else 0 := by
  rw [ms_and1, b_sshr v hv x (by decide), if_pos (show v + 0 < 32 by omega), Nat.add_zero]
theorem ms_test1 (x : Int32) {v : Nat} (hv : v < 32) : (x >>> (nI v &&& 31)) &&& 1 = 1 ↔ bt x v = true := by
  rw [ms_test x hv]
  by_cases h : bt x v = true
  · rw [if_pos h]
    exact ⟨fun _ => h, fun _ => rfl⟩
  · rw [if_neg h]
    exact ⟨fun z => absurd z (by decide), fun z => absurd z h⟩
theorem ms_bit {v : Nat} (hv : v < 32) {i : Nat} (hi : i < 32) : bt ((1 : Int32) <<< (nI v &&& 31)) i = decide (i = v) := by
  rw [b_shl v hv 1 hi]
  by_cases h : v ≤ i
  · rw [ms_one (i - v) (by omega), decide_eq_true h, Bool.true_and]
    by_cases e : i = v
    · simp [e]
    · rw [decide_eq_false (by omega), decide_eq_false e]
  · rw [decide_eq_false h, Bool.false_and, decide_eq_false (by omega)]
theorem ms_allb : ∀ n, n < 11 → ∀ i, i < 32 → bt (((1 : Int32) <<< (nI n &&& 31)) - 1) i = decide (i < n) := by decide +kernel
theorem ms_not (x : Int32) {i : Nat} (hi : i < 32) : bt (x ^^^ (-1)) i = !bt x i := by
  rw [b_xor, b_m1 i hi, Bool.xor_true]
theorem ms_lt32 {x : Int32} {i : Nat} (h : bt x i = true) : i < 32 := by
  rcases Nat.lt_or_ge i 32 with hi | hi
  · exact hi
  · rw [b_big hi] at h
    exact absurd h (by decide)
def ms_N (x : Int32) (P : Nat → Prop) : Prop := ∀ i, bt x i = true ↔ P i
def ms_M (n : Nat) (x : Int32) (S : Fin n → Prop) : Prop := ∀ i, bt x i = true ↔ ∃ h : i < n, S ⟨i, h⟩
theorem ms_N_ext {x y : Int32} {P : Nat → Prop} (hx : ms_N x P) (hy : ms_N y P) : x = y := b_ext fun i _ => Bool.eq_iff_iff.mpr ((hx i).trans (hy i).symm)
theorem ms_ext {n : Nat} {x y : Int32} {S : Fin n → Prop} (hx : ms_M n x S) (hy : ms_M n y S) : x = y := ms_N_ext hx hy
theorem ms_eq {n : Nat} {x : Int32} {S T : Fin n → Prop} (hx : ms_M n x S) (hy : ms_M n x T) : S = T := by
  funext v
  have h := (hx v.1).symm.trans (hy v.1)
  exact propext ⟨fun z => (h.mp ⟨v.2, z⟩).elim fun _ y => y, fun z => (h.mpr ⟨v.2, z⟩).elim fun _ y => y⟩
theorem ms_at {n : Nat} {x : Int32} {S : Fin n → Prop} (hx : ms_M n x S) (v : Fin n) : bt x v.1 = true ↔ S v := (hx v.1).trans ⟨fun ⟨_, z⟩ => z, fun z => ⟨v.2, z⟩⟩
theorem ms_congr {n : Nat} {x : Int32} {S T : Fin n → Prop} (h : ∀ v, S v ↔ T v) (hx : ms_M n x S) : ms_M n x T := fun i => (hx i).trans ⟨fun ⟨a, b⟩ => ⟨a, (h _).mp b⟩, fun ⟨a, b⟩ => ⟨a, (h _).mpr b⟩⟩
theorem ms_or {n : Nat} {x y : Int32} {S T : Fin n → Prop} (hx : ms_M n x S) (hy : ms_M n y T) : ms_M n (x ||| y) (fun v => S v ∨ T v) := by
  intro i
  rw [b_or, Bool.or_eq_true, hx i, hy i]
  exact ⟨fun z => z.elim (fun ⟨a, b⟩ => ⟨a, Or.inl b⟩) (fun ⟨a, b⟩ => ⟨a, Or.inr b⟩), fun ⟨a, b⟩ => b.elim (fun b => Or.inl ⟨a, b⟩) (fun b => Or.inr ⟨a, b⟩)⟩
theorem ms_and {n : Nat} {x y : Int32} {S T : Fin n → Prop} (hx : ms_M n x S) (hy : ms_M n y T) : ms_M n (x &&& y) (fun v => S v ∧ T v) := by
  intro i
  rw [b_and, Bool.and_eq_true, hx i, hy i]
  exact ⟨fun ⟨⟨a, b⟩, ⟨_, c⟩⟩ => ⟨a, b, c⟩, fun ⟨a, b, c⟩ => ⟨⟨a, b⟩, ⟨a, c⟩⟩⟩
theorem ms_andn {n : Nat} {x y : Int32} {S T : Fin n → Prop} (hx : ms_M n x S) (hy : ms_M n y T) : ms_M n (x &&& (y ^^^ (-1))) (fun v => S v ∧ ¬ T v) := by
  intro i
  rw [b_and, Bool.and_eq_true, hx i]
  constructor
  · intro ⟨⟨a, b⟩, c⟩
    refine ⟨a, b, fun t => ?_⟩
    have h1 : bt y i = true := (hy i).mpr ⟨a, t⟩
    rw [ms_not y (ms_lt32 c), h1] at c
    exact absurd c (by decide)
  · intro ⟨a, b, c⟩
    have hi : i < 32 := ms_lt32 ((hx i).mpr ⟨a, b⟩)
    refine ⟨⟨a, b⟩, ?_⟩
    rw [ms_not y hi]
    cases h : bt y i with
    | true => exact absurd ((hy i).mp h) (fun ⟨_, t⟩ => c t)
    | false => rfl
theorem ms_zero (n : Nat) : ms_M n 0 (fun _ => False) := by
  intro i
  rw [b_0]
  exact ⟨fun z => absurd z (by decide), fun ⟨_, z⟩ => z.elim⟩
theorem ms_all {n : Nat} (hn : n ≤ 10) : ms_M n (((1 : Int32) <<< (nI n &&& 31)) - 1) (fun _ => True) := by
  intro i
  rcases Nat.lt_or_ge i 32 with hi | hi
  · rw [ms_allb n (by omega) i hi, decide_eq_true_iff]
    exact ⟨fun h => ⟨h, trivial⟩, fun ⟨h, _⟩ => h⟩
  · rw [b_big hi]
    exact ⟨fun z => absurd z (by decide), fun ⟨h, _⟩ => by omega⟩
theorem ms_m1 {n : Nat} (hn : n ≤ 10) {x : Int32} {S : Fin n → Prop} (hx : ms_M n x S) : (-1 : Int32) ≠ x := by
  intro e
  have h := (hx 31).mp (by rw [← e]; exact b_m1 31 (by decide))
  obtain ⟨h, _⟩ := h
  omega
theorem ms_set {x : Int32} {P : Nat → Prop} (hx : ms_N x P) {v : Nat} (hv : v < 32) : ms_N (x ||| ((1 : Int32) <<< (nI v &&& 31))) (fun i => P i ∨ i = v) := by
  intro i
  rw [b_or, Bool.or_eq_true, hx i]
  rcases Nat.lt_or_ge i 32 with hi | hi
  · rw [ms_bit hv hi, decide_eq_true_iff]
  · rw [b_big hi]
    exact ⟨fun z => z.elim Or.inl (fun z => absurd z (by decide)), fun z => z.elim Or.inl (fun z => absurd z (by omega))⟩
theorem ms_N_congr {x : Int32} {P Q : Nat → Prop} (h : ∀ i, P i ↔ Q i) (hx : ms_N x P) : ms_N x Q := fun i => (hx i).trans (h i)
theorem ms_and0 (x y : Int32) : x &&& y = 0 ↔ ∀ i, ¬ (bt x i = true ∧ bt y i = true) := by
  constructor
  · intro h i ⟨a, b⟩
    have : bt (x &&& y) i = true := by rw [b_and, a, b]; rfl
    rw [h, b_0] at this
    exact absurd this (by decide)
  · intro h
    apply b_ext
    intro i _
    rw [b_and, b_0]
    have := h i
    revert this
    cases bt x i <;> cases bt y i <;> decide
/-- what a player can force -/
def fo_F (n : Nat) (pl e : Nat → Int32) (p : Int32) (S : Fin n → Prop) (v : Fin n) : Prop :=
  (pl v.1 = p → ∃ w : Fin n, bt (e v.1) w.1 = true ∧ S w) ∧ (¬ pl v.1 = p → ∀ w : Fin n, bt (e v.1) w.1 = true → S w)
theorem fo_mono (n : Nat) (pl e : Nat → Int32) (p : Int32) : pg_mono (fo_F n pl e p) := fun _ _ h _ hv => ⟨fun z => (hv.1 z).elim fun w hw => ⟨w, hw.1, h w hw.2⟩, fun z w hw => h w (hv.2 z w hw)⟩
def ms_D (n : Nat) (pl e : Nat → Int32) : Prop := n ≤ 10 ∧ ∀ v, v < n → (pl v = 0 ∨ pl v = 1) ∧ (∀ i, bt (e v) i = true → i < n)
theorem fo_dual {n : Nat} {pl e : Nat → Int32} (h : ms_D n pl e) : pg_dual (fo_F n pl e 0) = fo_F n pl e 1 := by
  funext S v
  apply propext
  rcases (h.2 v.1 v.2).1 with hv | hv
  · have h1 : ¬ pl v.1 = 1 := by rw [hv]; decide
    constructor
    · intro hd
      refine ⟨fun z => absurd z h1, fun _ w hw => Classical.byContradiction fun hn => hd ⟨fun _ => ⟨w, hw, hn⟩, fun z => absurd hv z⟩⟩
    · intro hs hd
      obtain ⟨w, hw, hn⟩ := hd.1 hv
      exact hn (hs.2 h1 w hw)
  · have h0 : ¬ pl v.1 = 0 := by rw [hv]; decide
    constructor
    · intro hd
      refine ⟨fun _ => Classical.byContradiction fun hn => hd ⟨fun z => absurd z h0, fun _ w hw hs => hn ⟨w, hw, hs⟩⟩, fun z => absurd hv z⟩
    · intro hs hd
      obtain ⟨w, hw, hss⟩ := hs.1 hv
      exact hd.2 h0 w hw hss
theorem fo_own {n : Nat} {pl e : Nat → Int32} (h : ms_D n pl e) {x : Int32} {S : Fin n → Prop} (hx : ms_M n x S) (v : Fin n) : e v.1 &&& x = 0 ↔ ¬ ∃ w : Fin n, bt (e v.1) w.1 = true ∧ S w := by
  rw [ms_and0]
  constructor
  · intro hn ⟨w, a, b⟩
    exact hn w.1 ⟨a, (ms_at hx w).mpr b⟩
  · intro hn i ⟨a, b⟩
    obtain ⟨hi, hs⟩ := (hx i).mp b
    exact hn ⟨⟨i, hi⟩, a, hs⟩
theorem fo_oth {n : Nat} {pl e : Nat → Int32} (h : ms_D n pl e) {x : Int32} {S : Fin n → Prop} (hx : ms_M n x S) (v : Fin n) : e v.1 &&& (x ^^^ (-1)) = 0 ↔ ∀ w : Fin n, bt (e v.1) w.1 = true → S w := by
  rw [ms_and0]
  constructor
  · intro hn w a
    refine Classical.byContradiction fun hs => hn w.1 ⟨a, ?_⟩
    rw [ms_not x (ms_lt32 a)]
    cases hb : bt x w.1 with
    | true => exact absurd ((ms_at hx w).mp hb) hs
    | false => rfl
  · intro hn i ⟨a, b⟩
    have hi := (h.2 v.1 v.2).2 i a
    have := hn ⟨i, hi⟩ a
    have hb := (ms_at hx ⟨i, hi⟩).mpr this
    rw [ms_not x (ms_lt32 a)] at b
    change bt x i = true at hb
    rw [hb] at b
    exact absurd b (by decide)
theorem fx_it_const {β : Type} {f : (β → Prop) → β → Prop} {S0 : β → Prop} {j : Nat} (h : f (fx_it f S0 j) = fx_it f S0 j) : ∀ d, fx_it f S0 (j + d) = fx_it f S0 j := by
  intro d
  induction d with
  | zero => rfl
  | succ d ih =>
    show f (fx_it f S0 (j + d)) = _
    rw [ih, h]
theorem wl_law {n : Nat} (hn : n ≤ 10) (W : Nat → Int32 → Int32 → Prop) (f : (Fin n → Prop) → Fin n → Prop) (S0 fin : Fin n → Prop) (hK : ∃ K, f (fx_it f S0 K) = fx_it f S0 K ∧ fx_it f S0 K = fin)
    (hend : ∀ k x, ms_M n x fin → W (k + 1) x x) (hstep : ∀ k x b S, ms_M n x S → ¬ b = x → (∀ r, ms_M n r (f S) → W k r x) → W (k + 1) x b)
    (x : Int32) (hx : ms_M n x S0) : ∃ k, W k x (-1) := by
  obtain ⟨K, hK, hfin⟩ := hK
  have hst : ∀ j, j ≤ K → f (fx_it f S0 j) = fx_it f S0 j → fx_it f S0 j = fin := by
    intro j hj e
    have := fx_it_const e (K - j)
    rw [show j + (K - j) = K by omega] at this
    rw [← this]
    exact hfin
  have key : ∀ d j, j + d = K → ∀ x b, ms_M n x (fx_it f S0 j) → (b = x → f (fx_it f S0 j) = fx_it f S0 j) → W (d + 2) x b := by
    intro d
    induction d with
    | zero =>
      intro j hj x b hx hb
      have ej : j = K := by omega
      subst ej
      by_cases e : b = x
      · rw [e]
        exact hend _ x (by rw [← hfin]; exact hx)
      · refine hstep _ x b _ hx e fun r hr => ?_
        rw [hK] at hr
        rw [ms_ext hr hx]
        exact hend _ x (by rw [← hfin]; exact hx)
    | succ d ih =>
      intro j hj x b hx hb
      by_cases e : b = x
      · rw [e]
        exact hend _ x (by rw [← hst j (by omega) (hb e)]; exact hx)
      · refine hstep _ x b _ hx e fun r hr => ih (j + 1) (by omega) r x hr fun e2 => ?_
        rw [← e2] at hr
        have := ms_eq hx hr
        show f (f (fx_it f S0 j)) = f (fx_it f S0 j)
        rw [← this, ← this]
  exact ⟨K + 2, key K 0 (by omega) x (-1) hx (fun e => absurd e (ms_m1 hn hx))⟩
theorem wl_mu {n : Nat} (hn : n ≤ 10) (W : Nat → Int32 → Int32 → Prop) {f : (Fin n → Prop) → Fin n → Prop} (hm : pg_mono f) {S0 : Fin n → Prop} (h0 : ∀ v, S0 v → f (fun _ => False) v)
    (hend : ∀ k x, ms_M n x (fx_lfp f) → W (k + 1) x x) (hstep : ∀ k x b S, ms_M n x S → ¬ b = x → (∀ r, ms_M n r (f S) → W k r x) → W (k + 1) x b)
    (x : Int32) (hx : ms_M n x S0) : ∃ k, W k x (-1) := by
  refine wl_law hn W f S0 (fx_lfp f) ?_ hend hstep x hx
  obtain ⟨K, hK⟩ := fx_stab hm (List.mem_finRange (n := n)) (S0 := S0) (fun v hv => hm _ _ (fun _ z => z.elim) v (h0 v hv))
  refine ⟨K, hK, fx_it_lfp hm ?_ hK⟩
  intro v hv
  rw [← fx_lfp_fix hm]
  exact hm _ _ (fun _ z => z.elim) v (h0 v hv)
theorem wl_nu {n : Nat} (hn : n ≤ 10) (W : Nat → Int32 → Int32 → Prop) {f : (Fin n → Prop) → Fin n → Prop} (hm : pg_mono f)
    (hend : ∀ k x, ms_M n x (fx_gfp f) → W (k + 1) x x) (hstep : ∀ k x b S, ms_M n x S → ¬ b = x → (∀ r, ms_M n r (f S) → W k r x) → W (k + 1) x b)
    (x : Int32) (hx : ms_M n x (fun _ => True)) : ∃ k, W k x (-1) := by
  refine wl_law hn W f (fun _ => True) (fx_gfp f) ?_ hend hstep x hx
  obtain ⟨K, hK⟩ := fx_stabD hm (List.mem_finRange (n := n)) (S0 := fun _ => True) (fun v hv => trivial)
  exact ⟨K, hK, fx_it_gfp hm (fun _ _ => trivial) hK⟩
end
section
/-! the reference's walk -/
section
variable {V : Type}
def yy_r (F : (V → Prop) → V → Prop) (S T : V → Prop) : V → Prop := fx_lfp (fun X v => S v ∨ (T v ∧ F X v))
def yy_s (F : (V → Prop) → V → Prop) (W O : V → Prop) : V → Prop := fx_gfp (fun X v => O v ∨ (W v ∧ F X v))
theorem yy_r_m {F : (V → Prop) → V → Prop} {S S' T : V → Prop} (h : ∀ v, S v → S' v) : ∀ v, yy_r F S T v → yy_r F S' T v := fx_lfp_mono fun _ v hv => hv.elim (fun z => Or.inl (h v z)) Or.inr
theorem yy_s_m {F : (V → Prop) → V → Prop} {W O O' : V → Prop} (h : ∀ v, O v → O' v) : ∀ v, yy_s F W O v → yy_s F W O' v := fx_gfp_mono fun _ v hv => hv.elim (fun z => Or.inl (h v z)) Or.inr
def yy_aa (F : (V → Prop) → V → Prop) (a : V → Prop) : V → Prop := fx_gfp (fun y => yy_r F (fun v => a v ∧ F y v) (fun _ => True))
def yy_ie (F : (V → Prop) → V → Prop) (a : V → Prop) : V → Prop := fx_lfp (fun x => yy_s F a (F x))
def yy_ba (F : (V → Prop) → V → Prop) (a b : V → Prop) : V → Prop := fx_gfp (fun z v => yy_r F (fun v => a v ∧ F z v) (fun _ => True) v ∧ yy_r F (fun v => b v ∧ F z v) (fun _ => True) v)
def yy_os (F : (V → Prop) → V → Prop) (A B s z : V → Prop) : V → Prop :=
  fx_lfp (fun y v => yy_s F (fun v => True ∧ ¬ A v) (fun v => (s v ∧ F z v) ∨ F y v) v ∨ yy_s F (fun v => True ∧ ¬ B v) (fun v => (s v ∧ F z v) ∨ F y v) v)
def yy_ib (F : (V → Prop) → V → Prop) (A B C D : V → Prop) : V → Prop := fx_gfp (fun z v => yy_os F A B C z v ∧ yy_os F A B D z v)
theorem yy_aa_b {F : (V → Prop) → V → Prop} (hF : pg_mono F) (a : V → Prop) : pg_mono (fun y => yy_r F (fun v => a v ∧ F y v) (fun _ => True)) :=
  fun _ _ h v hv => yy_r_m (fun w hw => ⟨hw.1, hF _ _ h w hw.2⟩) v hv
theorem yy_ie_b {F : (V → Prop) → V → Prop} (hF : pg_mono F) (a : V → Prop) : pg_mono (fun x => yy_s F a (F x)) := fun _ _ h v hv => yy_s_m (fun w hw => hF _ _ h w hw) v hv
theorem yy_ba_b {F : (V → Prop) → V → Prop} (hF : pg_mono F) (a b : V → Prop) : pg_mono (fun z v => yy_r F (fun v => a v ∧ F z v) (fun _ => True) v ∧ yy_r F (fun v => b v ∧ F z v) (fun _ => True) v) :=
  fun _ _ h v hv => ⟨yy_r_m (fun w hw => ⟨hw.1, hF _ _ h w hw.2⟩) v hv.1, yy_r_m (fun w hw => ⟨hw.1, hF _ _ h w hw.2⟩) v hv.2⟩
theorem yy_os_b {F : (V → Prop) → V → Prop} (hF : pg_mono F) (A B s z : V → Prop) :
    pg_mono (fun y v => yy_s F (fun v => True ∧ ¬ A v) (fun v => (s v ∧ F z v) ∨ F y v) v ∨ yy_s F (fun v => True ∧ ¬ B v) (fun v => (s v ∧ F z v) ∨ F y v) v) :=
  fun _ _ h v hv => hv.elim (fun hv => Or.inl (yy_s_m (fun w hw => hw.elim Or.inl (fun z => Or.inr (hF _ _ h w z))) v hv)) (fun hv => Or.inr (yy_s_m (fun w hw => hw.elim Or.inl (fun z => Or.inr (hF _ _ h w z))) v hv))
theorem yy_os_m {F : (V → Prop) → V → Prop} (hF : pg_mono F) (A B s : V → Prop) {z z' : V → Prop} (h : ∀ v, z v → z' v) : ∀ v, yy_os F A B s z v → yy_os F A B s z' v :=
  fx_lfp_mono fun _ v hv => hv.elim (fun hv => Or.inl (yy_s_m (fun w hw => hw.elim (fun z => Or.inl ⟨z.1, hF _ _ h w z.2⟩) Or.inr) v hv)) (fun hv => Or.inr (yy_s_m (fun w hw => hw.elim (fun z => Or.inl ⟨z.1, hF _ _ h w z.2⟩) Or.inr) v hv))
theorem yy_ib_b {F : (V → Prop) → V → Prop} (hF : pg_mono F) (A B C D : V → Prop) : pg_mono (fun z v => yy_os F A B C z v ∧ yy_os F A B D z v) :=
  fun _ _ h v hv => ⟨yy_os_m hF A B C h v hv.1, yy_os_m hF A B D h v hv.2⟩
end
section
variable {n : Nat} {ff : Int32} {pl e st gr rd : Nat → Int32}
theorem yw_force (hD : ms_D n pl e) {p x : Int32} {S : Fin n → Prop} (hx : ms_M n x S) {post : Int32 → Prop} (hp : ∀ r, ms_M n r (fo_F n pl e p S) → post r) : wpY_force post (nI n, ff, pl, e, st, gr, rd) p x := by
  have hn := hD.1
  have key : ∀ d j y, j + d = n → ms_N y (fun i => i < j ∧ ∃ h : i < n, fo_F n pl e p S ⟨i, h⟩) → wY_force_5 post p x (nI n) ff pl e st gr rd (d + 1) y (nI j) := by
    intro d
    induction d with
    | zero =>
      intro j y hj hy
      exact br_t (nI_le (by omega) (by omega)) (hp y (fun i => (hy i).trans ⟨fun z => z.2, fun z => ⟨by obtain ⟨h, _⟩ := z; omega, z⟩⟩))
    | succ d ih =>
      intro j y hj hy
      have hjn : j < n := by omega
      refine br_f (nI_ge hjn (by omega)) ⟨vp_in_nI (by omega) (by decide), ?_⟩
      rw [nI_clamp (by omega)]
      have hno : ¬ fo_F n pl e p S ⟨j, hjn⟩ → wY_force_64 post (wY_force_5 post p x (nI n) ff pl e st gr rd (d + 1)) p x y (nI j) 0 (nI n) ff pl e st gr rd := by
        intro hF
        refine br_t rfl (nm_r (nI_1 j) (ih (j + 1) y (by omega) (ms_N_congr (fun i => ?_) hy)))
        constructor
        · intro z
          exact ⟨by omega, z.2⟩
        · intro z
          refine ⟨?_, z.2⟩
          have hij : i ≠ j := by
            intro e
            subst e
            obtain ⟨_, h, hf⟩ := z
            exact hF hf
          omega
      have hyes : fo_F n pl e p S ⟨j, hjn⟩ → wY_force_64 post (wY_force_5 post p x (nI n) ff pl e st gr rd (d + 1)) p x y (nI j) 1 (nI n) ff pl e st gr rd := by
        intro hF
        refine br_f (by decide) (nm_e (nm_r (nI_1 j) (ih (j + 1) _ (by omega) (ms_N_congr (fun i => ?_) (ms_set hy (v := j) (by omega))))))
        constructor
        · intro z
          rcases z with z | z
          · exact ⟨by omega, z.2⟩
          · subst z
            exact ⟨by omega, hjn, hF⟩
        · intro z
          by_cases hij : i = j
          · exact Or.inr hij
          · exact Or.inl ⟨by omega, z.2⟩
      by_cases hpl : pl j = p
      · refine br_t hpl ⟨vp_in_nI (by omega) (by decide), ?_⟩
        by_cases h0 : e j &&& x = 0
        · refine br_t h0 (hno fun hF => ((fo_own hD hx ⟨j, hjn⟩).mp h0) (hF.1 hpl))
        · refine br_f h0 (hyes ⟨fun _ => Classical.byContradiction fun hn => h0 ((fo_own hD hx ⟨j, hjn⟩).mpr hn), fun z => absurd hpl z⟩)
      · refine br_f hpl ⟨vp_in_nI (by omega) (by decide), ?_⟩
        by_cases h0 : e j &&& (x ^^^ (-1)) = 0
        · exact br_t h0 (hyes ⟨fun z => absurd z hpl, fun _ => (fo_oth hD hx ⟨j, hjn⟩).mp h0⟩)
        · exact br_f h0 (hno fun hF => h0 ((fo_oth hD hx ⟨j, hjn⟩).mpr (hF.2 hpl)))
  refine ⟨n + 1, key n 0 0 (by omega) ?_⟩
  intro i
  rw [b_0]
  exact ⟨fun z => absurd z (by decide), fun z => absurd z.1 (by omega)⟩
theorem yw_all (hD : ms_D n pl e) {post : Int32 → Prop} (hp : ∀ r, ms_M n r (fun _ => True) → post r) : wpY_all post (nI n, ff, pl, e, st, gr, rd) := hp _ (ms_all hD.1)
theorem yw_reach (hD : ms_D n pl e) {s t : Int32} {S T : Fin n → Prop} (hs : ms_M n s S) (ht : ms_M n t T) {post : Int32 → Prop} (hp : ∀ r, ms_M n r (yy_r (fo_F n pl e 0) S T) → post r) :
    wpY_reach post (nI n, ff, pl, e, st, gr, rd) s t :=
  wl_mu hD.1 (fun k x b => wY_reach_5 post s t (nI n) ff pl e st gr rd k x b) (un_Rm (fo_mono n pl e 0) S T) (S0 := S) (fun v hv => Or.inl hv) (fun k x hx => br_t rfl (hp x hx))
    (fun k x b S' hx hb hr => br_f hb (yw_force hD hx fun r hr2 => nm_e (hr _ (ms_or hs (ms_and ht hr2))))) s hs
theorem yw_stay (hD : ms_D n pl e) {w o : Int32} {W O : Fin n → Prop} (hw : ms_M n w W) (ho : ms_M n o O) {post : Int32 → Prop} (hp : ∀ r, ms_M n r (yy_s (fo_F n pl e 0) W O) → post r) :
    wpY_stay post (nI n, ff, pl, e, st, gr, rd) w o :=
  wl_nu hD.1 (fun k x b => wY_stay_8 post w o (nI n) ff pl e st gr rd k x b) (un_Rm (fo_mono n pl e 0) O W) (fun k x hx => br_t rfl (hp x hx))
    (fun k x b S' hx hb hr => br_f hb (yw_force hD hx fun r hr2 => nm_e (hr _ (ms_or ho (ms_and hw hr2))))) _ (ms_all hD.1)
theorem yw_aa (hD : ms_D n pl e) {a : Int32} {A : Fin n → Prop} (ha : ms_M n a A) {post : Int32 → Prop} (hp : ∀ r, ms_M n r (yy_aa (fo_F n pl e 0) A) → post r) :
    wpY_againAndAgain post (nI n, ff, pl, e, st, gr, rd) a :=
  wl_nu hD.1 (fun k x b => wY_againAndAgain_7 post a (nI n) ff pl e st gr rd k x b) (yy_aa_b (fo_mono n pl e 0) A) (fun k x hx => br_t rfl (hp x hx))
    (fun k x b S' hx hb hr => br_f hb (yw_force hD hx fun r hr2 => yw_all hD fun r3 hr3 => yw_reach hD (ms_and ha hr2) hr3 fun r4 hr4 => hr _ hr4)) _ (ms_all hD.1)
theorem yw_ie (hD : ms_D n pl e) {a : Int32} {A : Fin n → Prop} (ha : ms_M n a A) {post : Int32 → Prop} (hp : ∀ r, ms_M n r (yy_ie (fo_F n pl e 0) A) → post r) :
    wpY_inTheEnd post (nI n, ff, pl, e, st, gr, rd) a :=
  wl_mu hD.1 (fun k x b => wY_inTheEnd_4 post a (nI n) ff pl e st gr rd k x b) (yy_ie_b (fo_mono n pl e 0) A) (S0 := fun _ => False) (fun v hv => hv.elim) (fun k x hx => br_t rfl (hp x hx))
    (fun k x b S' hx hb hr => br_f hb (yw_force hD hx fun r hr2 => yw_stay hD ha hr2 fun r4 hr4 => hr _ hr4)) _ (ms_zero n)
theorem yw_ba (hD : ms_D n pl e) {a b : Int32} {A B : Fin n → Prop} (ha : ms_M n a A) (hb : ms_M n b B) {post : Int32 → Prop} (hp : ∀ r, ms_M n r (yy_ba (fo_F n pl e 0) A B) → post r) :
    wpY_bothAgain post (nI n, ff, pl, e, st, gr, rd) a b :=
  wl_nu hD.1 (fun k x c => wY_bothAgain_8 post a b (nI n) ff pl e st gr rd k x c) (yy_ba_b (fo_mono n pl e 0) A B) (fun k x hx => br_t rfl (hp x hx))
    (fun k x c S' hx hc hr => br_f hc (yw_force hD hx fun r hr2 => yw_all hD fun r3 hr3 => yw_reach hD (ms_and ha hr2) hr3 fun r4 hr4 =>
      yw_force hD hx fun r5 hr5 => yw_all hD fun r6 hr6 => yw_reach hD (ms_and hb hr5) hr6 fun r7 hr7 => nm_e (hr _ (ms_and hr4 hr7)))) _ (ms_all hD.1)
theorem yw_os (hD : ms_D n pl e) {A B : Fin n → Prop} (hA : ms_M n (st 0) A) (hB : ms_M n (st 1) B) {s z : Int32} {S Z : Fin n → Prop} (hs : ms_M n s S) (hz : ms_M n z Z) {post : Int32 → Prop}
    (hp : ∀ r, ms_M n r (yy_os (fo_F n pl e 0) A B S Z) → post r) : wpY_orSpoil post (nI n, ff, pl, e, st, gr, rd) s z :=
  wl_mu hD.1 (fun k x c => wY_orSpoil_5 post s z (nI n) ff pl e st gr rd k x c) (yy_os_b (fo_mono n pl e 0) A B S Z) (S0 := fun _ => False) (fun v hv => hv.elim) (fun k x hx => br_t rfl (hp x hx))
    (fun k x c S' hx hc hr => br_f hc (yw_force hD hz fun r hr2 => yw_force hD hx fun r3 hr3 => nm_e (yw_all hD fun r4 hr4 => yw_stay hD (ms_andn hr4 hA) (ms_or (ms_and hs hr2) hr3) fun r5 hr5 =>
      yw_all hD fun r6 hr6 => yw_stay hD (ms_andn hr6 hB) (ms_or (ms_and hs hr2) hr3) fun r7 hr7 => nm_e (hr _ (ms_or hr5 hr7))))) _ (ms_zero n)
theorem yw_ib (hD : ms_D n pl e) {A B C D : Fin n → Prop} (hA : ms_M n (st 0) A) (hB : ms_M n (st 1) B) (hC : ms_M n (st 2) C) (hDD : ms_M n (st 3) D) {post : Int32 → Prop}
    (hp : ∀ r, ms_M n r (yy_ib (fo_F n pl e 0) A B C D) → post r) : wpY_ifBoth post (nI n, ff, pl, e, st, gr, rd) :=
  wl_nu hD.1 (fun k x c => wY_ifBoth_7 post (nI n) ff pl e st gr rd k x c) (yy_ib_b (fo_mono n pl e 0) A B C D) (fun k x hx => br_t rfl (hp x hx))
    (fun k x c S' hx hc hr => br_f hc (yw_os hD hA hB hC hx fun r hr2 => yw_os hD hA hB hDD hx fun r3 hr3 => nm_e (hr _ (ms_and hr2 hr3)))) _ (ms_all hD.1)
end
end
section
/-! the reference's walk: pairs, and the whole of solve -/
def yi_n (c : Bool) : Nat := cond c 1 0
def yi_i (c : Bool) : Int32 := cond c 1 0
theorem yi_cl (c : Bool) : (yi_i c).toNatClampNeg = yi_n c := by cases c <;> rfl
theorem yi_in (c : Bool) : vp_in (yi_i c) 2 := by
  cases c
  · exact vp_in_nI (n := 0) (by decide) (by decide)
  · exact vp_in_nI (n := 1) (by decide) (by decide)
theorem yi_no (c : Bool) : 1 - yi_i c = yi_i (!c) := by cases c <;> rfl
def pr_2 {V : Type} (a b : V → Prop) : Bool → V → Prop := fun i => cond i b a
section
variable {V : Type} {F : (V → Prop) → V → Prop}
theorem fx_gfp_c {f : (V → Prop) → V → Prop} {c : V → Prop} (h : ∀ X v, f X v ↔ c v) : fx_gfp f = c := by
  funext v
  exact propext ⟨fun ⟨S, hS, hv⟩ => (h S v).mp (hS v hv), fun hv => ⟨c, fun w hw => (h c w).mpr hw, hv⟩⟩
theorem yy_T : yy_r F (fun _ => False) (fun _ => True) = un_T F := by
  show fx_lfp _ = fx_lfp _
  congr 1
  funext X v
  exact propext ⟨fun z => z.elim (fun z => z.elim) (fun z => z.2), fun z => Or.inr ⟨trivial, z⟩⟩
theorem yy_S : yy_s F (fun _ => True) (fun _ => False) = un_S F := by
  show fx_gfp _ = fx_gfp _
  congr 1
  funext X v
  exact propext ⟨fun z => z.elim (fun z => z.elim) (fun z => z.2), fun z => Or.inr ⟨trivial, z⟩⟩
theorem yy_YT (s : Bool → V → Prop) (j : Bool) (z : V → Prop) : gr_Y F (fun _ _ => True) s j z = yy_r F (fun v => s j v ∧ F z v) (fun _ => True) := by
  show fx_lfp _ = fx_lfp _
  congr 1
  funext y v
  have e : ∀ i, gr_X F (fun _ _ => True) s j i z y = fun v => (s j v ∧ F z v) ∨ F y v := fun i => fx_gfp_c fun X v =>
    ⟨fun h => h.elim Or.inl (fun h => h.elim Or.inr (fun h => absurd trivial h.1)), fun h => h.elim Or.inl (fun h => Or.inr (Or.inl h))⟩
  apply propext
  constructor
  · intro ⟨i, hi⟩
    rw [e] at hi
    exact hi.elim Or.inl (fun h => Or.inr ⟨trivial, h⟩)
  · intro h
    refine ⟨false, ?_⟩
    rw [e]
    exact h.elim Or.inl (fun h => Or.inr h.2)
theorem yy_aa_gr (a : V → Prop) : yy_aa F a = gr_Z F (fun _ _ => True) (fun _ => a) := by
  show fx_gfp _ = fx_gfp _
  congr 1
  funext z v
  apply propext
  constructor
  · intro h j
    rw [yy_YT]
    exact h
  · intro h
    have := h false
    rw [yy_YT] at this
    exact this
theorem yy_ba_gr (a b : V → Prop) : yy_ba F a b = gr_Z F (fun _ _ => True) (pr_2 a b) := by
  show fx_gfp _ = fx_gfp _
  congr 1
  funext z v
  apply propext
  constructor
  · intro h j
    rw [yy_YT]
    cases j
    · exact h.1
    · exact h.2
  · intro h
    have h0 := h false
    have h1 := h true
    rw [yy_YT] at h0 h1
    exact ⟨h0, h1⟩
theorem yy_ie_gr (a : V → Prop) : yy_ie F a = gr_Z F (fun _ v => ¬ a v) (fun _ _ => False) := by
  have e : ∀ j z, gr_Y F (fun _ v => ¬ a v) (fun _ _ => False) j z = yy_ie F a := by
    intro j z
    show fx_lfp _ = fx_lfp _
    congr 1
    funext y v
    have e : ∀ i, gr_X F (fun _ v => ¬ a v) (fun _ _ => False) j i z y = yy_s F a (F y) := by
      intro i
      show fx_gfp _ = fx_gfp _
      congr 1
      funext X v
      exact propext ⟨fun h => h.elim (fun h => h.1.elim) (fun h => h.elim Or.inl (fun h => Or.inr ⟨Classical.not_not.mp h.1, h.2⟩)), fun h => h.elim (fun h => Or.inr (Or.inl h)) (fun h => Or.inr (Or.inr ⟨fun n => n h.1, h.2⟩))⟩
    apply propext
    constructor
    · intro ⟨i, hi⟩
      rw [e] at hi
      exact hi
    · intro h
      refine ⟨false, ?_⟩
      rw [e]
      exact h
  refine (fx_gfp_c ?_).symm
  intro X v
  constructor
  · intro h
    have := h false
    rw [e] at this
    exact this
  · intro h j
    rw [e]
    exact h
theorem yy_os_gr (A B : V → Prop) (s : Bool → V → Prop) (j : Bool) (z : V → Prop) : yy_os F A B (s j) z = gr_Y F (pr_2 A B) s j z := by
  show fx_lfp _ = fx_lfp _
  congr 1
  funext y v
  have e : ∀ i, gr_X F (pr_2 A B) s j i z y = yy_s F (fun v => True ∧ ¬ pr_2 A B i v) (fun v => (s j v ∧ F z v) ∨ F y v) := by
    intro i
    show fx_gfp _ = fx_gfp _
    congr 1
    funext X v
    exact propext ⟨fun h => h.elim (fun h => Or.inl (Or.inl h)) (fun h => h.elim (fun h => Or.inl (Or.inr h)) (fun h => Or.inr ⟨⟨trivial, h.1⟩, h.2⟩)),
      fun h => h.elim (fun h => h.elim Or.inl (fun h => Or.inr (Or.inl h))) (fun h => Or.inr (Or.inr ⟨h.1.2, h.2⟩))⟩
  apply propext
  constructor
  · intro h
    rcases h with h | h
    · refine ⟨false, ?_⟩
      rw [e]
      exact h
    · refine ⟨true, ?_⟩
      rw [e]
      exact h
  · intro ⟨i, h⟩
    rw [e] at h
    cases i
    · exact Or.inl h
    · exact Or.inr h
theorem yy_ib_gr (A B C D : V → Prop) : yy_ib F A B C D = gr_Z F (pr_2 A B) (pr_2 C D) := by
  show fx_gfp _ = fx_gfp _
  congr 1
  funext z v
  have h0 := yy_os_gr (F := F) A B (pr_2 C D) false z
  have h1 := yy_os_gr (F := F) A B (pr_2 C D) true z
  apply propext
  constructor
  · intro h j
    cases j
    · rw [← h0]
      exact h.1
    · rw [← h1]
      exact h.2
  · intro h
    have a := h false
    have b := h true
    rw [← h0] at a
    rw [← h1] at b
    exact ⟨a, b⟩
end
section
variable {n : Nat} {ff : Int32} {pl e st gr rd : Nat → Int32}
theorem yw_inner (hD : ms_D n pl e) {p w o : Int32} {c : Bool} {Gc W O : Fin n → Prop} (hG : ms_M n (gr (yi_n c)) Gc) (hw : ms_M n w W) (ho : ms_M n o O) {post : Int32 → Prop}
    (hp : ∀ r, ms_M n r (fx_gfp (fun y => fx_lfp (fun X v => (O v ∨ ((W v ∧ Gc v) ∧ fo_F n pl e p y v)) ∨ (W v ∧ fo_F n pl e p X v)))) → post r) :
    wpY_inner post (nI n, ff, pl, e, st, gr, rd) p (yi_i c) w o := by
  refine wl_nu hD.1 (fun k x b => wY_inner_9 post p (yi_i c) w o (nI n) ff pl e st gr rd k x b) ?_ (fun k x hx => br_t rfl (hp x hx)) (fun k x b S' hx hb hr => br_f hb ⟨yi_in c, yw_force hD hx fun r hr2 => nm_e ?_⟩) _ (ms_all hD.1)
  · intro S T h v hv
    refine fx_lfp_mono ?_ v hv
    intro X v hv
    rcases hv with (hv | hv) | hv
    · exact Or.inl (Or.inl hv)
    · exact Or.inl (Or.inr ⟨hv.1, fo_mono n pl e p _ _ h v hv.2⟩)
    · exact Or.inr hv
  · rw [yi_cl]
    have hs := ms_or ho (ms_and (ms_and hw hG) hr2)
    exact wl_mu hD.1 (fun k y b => wY_inner_47 post _ p (yi_i c) w o x _ (nI n) ff pl e st gr rd k y b) (un_Rm (fo_mono n pl e p) _ W) (S0 := fun _ => False) (fun v hv => hv.elim)
      (fun k y hy => br_t rfl (hr y hy)) (fun k y b S2 hy hb2 hr3 => br_f hb2 (yw_force hD hy fun r4 hr4 => nm_e (hr3 _ (ms_or hs (ms_and hw hr4))))) 0 (ms_zero n)
theorem yw_least (hD : ms_D n pl e) {p y o : Int32} {i : Bool} {G R : Bool → Fin n → Prop} (hG : ∀ c, ms_M n (gr (yi_n c)) (G c)) (hR : ∀ c, ms_M n (rd (yi_n c)) (R c)) {Y O : Fin n → Prop} (hy : ms_M n y Y) (ho : ms_M n o O)
    {post : Int32 → Prop} (hp : ∀ r, ms_M n r (rb_X1 (fo_F n pl e p) G R i O Y) → post r) : wpY_leastOfPair post (nI n, ff, pl, e, st, gr, rd) p (yi_i i) y o := by
  unfold wpY_leastOfPair
  dsimp only
  refine yw_all hD fun r1 hr1 => ⟨yi_in i, nm_e ⟨yi_in i, yw_force hD hy fun r2 hr2 => nm_e ?_⟩⟩
  rw [yi_cl]
  have h5 : ms_M n (r1 &&& (rd (yi_n i) ^^^ (-1))) (fun v => ¬ R i v) := ms_congr (fun v => ⟨fun z => z.2, fun z => ⟨trivial, z⟩⟩) (ms_andn hr1 (hR i))
  have h6 := ms_or ho (ms_and (ms_and h5 (hG i)) hr2)
  refine wl_mu hD.1 (fun k x b => wY_leastOfPair_42 post p (yi_i i) _ _ (nI n) ff pl e st gr rd k x b) (rb_X1_b (fo_mono n pl e p) i O Y) (S0 := fun _ => False) (fun v hv => hv.elim)
    (fun k x hx => br_t rfl (hp x hx)) (fun k x b S' hx hb hr => br_f hb (yw_force hD hx fun r3 hr3 => nm_e ?_)) 0 (ms_zero n)
  rw [yi_no]
  refine ⟨yi_in _, ?_⟩
  rw [yi_cl]
  exact yw_inner hD (c := !i) (W := rb_W R i) (hG (!i)) (ms_andn h5 (hR (!i))) (ms_or h6 (ms_and h5 hr3)) (fun r hr4 => hr r hr4)
theorem yw_pair (hD : ms_D n pl e) {p o : Int32} {i : Bool} {G R : Bool → Fin n → Prop} (hG : ∀ c, ms_M n (gr (yi_n c)) (G c)) (hR : ∀ c, ms_M n (rd (yi_n c)) (R c)) {O : Fin n → Prop} (ho : ms_M n o O)
    {post : Int32 → Prop} (hp : ∀ r, ms_M n r (rb_Y1 (fo_F n pl e p) G R i O) → post r) : wpY_pair post (nI n, ff, pl, e, st, gr, rd) p (yi_i i) o :=
  wl_nu hD.1 (fun k x b => wY_pair_9 post p (yi_i i) o (nI n) ff pl e st gr rd k x b) (rb_Y1_b (fo_mono n pl e p) i O) (fun k x hx => br_t rfl (hp x hx))
    (fun k x b S' hx hb hr => br_f hb (yw_least hD hG hR hx ho fun r hr2 => hr r hr2)) _ (ms_all hD.1)
theorem yw_one (hD : ms_D n pl e) {p : Int32} {G R : Bool → Fin n → Prop} (hG : ∀ c, ms_M n (gr (yi_n c)) (G c)) (hR : ∀ c, ms_M n (rd (yi_n c)) (R c))
    {post : Int32 → Prop} (hp : ∀ r, ms_M n r (rb_X0 (fo_F n pl e p) G R) → post r) : wpY_onePair post (nI n, ff, pl, e, st, gr, rd) p :=
  wl_mu hD.1 (fun k x b => wY_onePair_4 post p (nI n) ff pl e st gr rd k x b) (rb_X0_b (fo_mono n pl e p)) (S0 := fun _ => False) (fun v hv => hv.elim) (fun k x hx => br_t rfl (hp x hx))
    (fun k x b S' hx hb hr => br_f hb (yw_force hD hx fun r hr2 => yw_pair (i := false) hD hG hR hr2 fun r3 hr3 => yw_pair (i := true) hD hG hR hr2 fun r4 hr4 => nm_e (hr _
      (ms_congr (fun v => ⟨fun z => z.elim (fun z => ⟨false, z⟩) (fun z => ⟨true, z⟩), fun ⟨i, z⟩ => by cases i; exact Or.inl z; exact Or.inr z⟩) (ms_or hr3 hr4))))) 0 (ms_zero n)
def ms_S (n : Nat) (x : Int32) : Fin n → Prop := fun v => bt x v.1 = true
def so_Sol (n : Nat) (pl e st : Nat → Int32) (g : Nat) : Fin n → Prop :=
  match g with
  | 0 => un_R (fo_F n pl e 0) (ms_S n (st 0)) (fun _ => True)
  | 1 => un_G (fo_F n pl e 0) (ms_S n (st 0))
  | 2 => gr_Z (fo_F n pl e 0) (fun _ _ => True) (fun _ => ms_S n (st 0))
  | 3 => gr_Z (fo_F n pl e 0) (fun _ v => ¬ ms_S n (st 0) v) (fun _ _ => False)
  | 4 => gr_Z (fo_F n pl e 0) (fun _ _ => True) (pr_2 (ms_S n (st 0)) (ms_S n (st 1)))
  | 5 => gr_Z (fo_F n pl e 0) (pr_2 (ms_S n (st 0)) (ms_S n (st 1))) (pr_2 (ms_S n (st 2)) (ms_S n (st 3)))
  | 6 => rb_X0 (fo_F n pl e 0) (pr_2 (ms_S n (st 1)) (ms_S n (st 3))) (pr_2 (ms_S n (st 0)) (ms_S n (st 2)))
  | 7 => fun v => ¬ rb_X0 (fo_F n pl e 1) (pr_2 (ms_S n (st 0)) (ms_S n (st 2))) (pr_2 (ms_S n (st 1)) (ms_S n (st 3))) v
  | _ => un_R (fo_F n pl e 0) (ms_S n (st 1)) (ms_S n (st 0))
def ms_D4 (n : Nat) (st : Nat → Int32) : Prop := ∀ s, s < 4 → ∀ i, bt (st s) i = true → i < n
theorem ms_D4_M (h : ms_D4 n st) {s : Nat} (hs : s < 4) : ms_M n (st s) (ms_S n (st s)) := fun i => ⟨fun z => ⟨h s hs i z, z⟩, fun ⟨_, z⟩ => z⟩
theorem yw_pairs {x0 x1 : Int32} {a : Nat → Int32} {A B : Fin n → Prop} (h0 : ms_M n x0 A) (h1 : ms_M n x1 B) : ∀ c, ms_M n (upd (upd a 0 x0) 1 x1 (yi_n c)) (pr_2 A B c) := by
  intro c
  cases c
  · exact h0
  · exact h1
theorem yw_solve (hD : ms_D n pl e) (h4 : ms_D4 n st) {g : Nat} (hg : g < 9) {post : Int32 → SY → Prop}
    (hp : ∀ r ff gr rd, ms_M n r (so_Sol n pl e st g) → post r (nI n, ff, pl, e, st, gr, rd)) : wpY_solve post (nI n, ff, pl, e, st, gr, rd) (nI g) := by
  have h0 := ms_D4_M h4 (s := 0) (by decide)
  have h1 := ms_D4_M h4 (s := 1) (by decide)
  have h2 := ms_D4_M h4 (s := 2) (by decide)
  have h3 := ms_D4_M h4 (s := 3) (by decide)
  unfold wpY_solve
  dsimp only
  refine yw_all hD fun r1 hr1 => yw_reach hD (ms_zero n) hr1 fun rF hrF => nm_e (yw_all hD fun r2 hr2 => yw_stay hD hr2 (ms_zero n) fun rS hrS => ?_)
  rw [yy_T] at hrF
  rw [yy_S] at hrS
  match g, hg, hp with
  | 0, _, hp => exact br_f (by decide) (br_t rfl (yw_all hD fun r3 hr3 => yw_reach hD (ms_or (ms_and h0 hrS) hrF) hr3 fun r hr => hp r _ _ _ hr))
  | 1, _, hp => exact br_f (by decide) (br_f (by decide) (yw_stay hD h0 hrF fun r hr => hp r _ _ _ hr))
  | 2, _, hp => exact br_t (by decide) (br_f (by decide) (br_t rfl (yw_aa hD h0 fun r hr => hp r _ _ _ (by rw [yy_aa_gr] at hr; exact hr))))
  | 3, _, hp => exact br_t (by decide) (br_f (by decide) (br_f (by decide) (yw_ie hD h0 fun r hr => hp r _ _ _ (by rw [yy_ie_gr] at hr; exact hr))))
  | 4, _, hp => exact br_t (by decide) (br_t (by decide) (br_f (by decide) (br_t rfl (yw_ba hD h0 h1 fun r hr => hp r _ _ _ (by rw [yy_ba_gr] at hr; exact hr)))))
  | 5, _, hp => exact br_t (by decide) (br_t (by decide) (br_f (by decide) (br_f (by decide) (yw_ib hD h0 h1 h2 h3 fun r hr => hp r _ _ _ (by rw [yy_ib_gr] at hr; exact hr)))))
  | 6, _, hp =>
    refine br_t (by decide) (br_t (by decide) (br_t (by decide) (br_t rfl ⟨vp_in_nI (n := 1) (by decide) (by decide), nm_e ⟨vp_in_nI (n := 0) (by decide) (by decide), nm_e ⟨vp_in_nI (n := 3) (by decide) (by decide), nm_e ⟨vp_in_nI (n := 2) (by decide) (by decide), nm_e ?_⟩⟩⟩⟩)))
    exact yw_one hD (yw_pairs h1 h3) (yw_pairs h0 h2) fun r hr => hp r _ _ _ hr
  | 7, _, hp =>
    refine br_t (by decide) (br_t (by decide) (br_t (by decide) (br_f (by decide) (br_t rfl ⟨vp_in_nI (n := 0) (by decide) (by decide), nm_e ⟨vp_in_nI (n := 1) (by decide) (by decide), nm_e ⟨vp_in_nI (n := 2) (by decide) (by decide), nm_e ⟨vp_in_nI (n := 3) (by decide) (by decide), nm_e ?_⟩⟩⟩⟩))))
    exact yw_all hD fun r3 hr3 => yw_one hD (yw_pairs h0 h2) (yw_pairs h1 h3) fun r hr => hp _ _ _ _ (ms_congr (fun v => ⟨fun z => z.2, fun z => ⟨trivial, z⟩⟩) (ms_andn hr3 hr))
  | 8, _, hp => exact br_t (by decide) (br_t (by decide) (br_t (by decide) (br_f (by decide) (br_f (by decide) (yw_reach hD (ms_or (ms_and h1 hrS) hrF) h0 fun r hr => hp r _ _ _ hr)))))
end
end
section
/-! the component: what a memory makes of a position -/
def xb_i (b : Bool) : Int32 := cond b 1 0
def xw_s (a b l : Bool) : Bool := (l || a) && b
def xw_h (a b l : Bool) : Bool := !((l || a) && b) && (l || a)
def xp_m (r0 r1 l : Bool) : Bool := cond (cond l r1 r0 && !(cond l r0 r1)) (!l) l
def xp_r (r0 r1 g0 g1 l : Bool) : Nat := cond (cond l r1 r0) 5 (cond (cond l g1 g0) 4 (cond (cond l r0 r1) 3 (cond (cond l g0 g1) 2 1)))
def xh_me (g : Nat) (A B C D : Bool) (m : Nat) : Nat :=
  match g with
  | 0 => if m = 0 then cond A 1 0 else m
  | 1 => if m = 0 then cond A 0 1 else m
  | 2 => 0
  | 3 => 0
  | 4 => (xw_h A B (m % 2 == 1)).toNat
  | 5 => (xw_h A B (m % 2 == 1)).toNat + 2 * (xw_h C D (m / 2 == 1)).toNat
  | 6 => (xp_m A C (m % 2 == 1)).toNat
  | 7 => (xp_m B D (m % 2 == 1)).toNat
  | _ => if m = 0 then cond B 1 (cond A 0 2) else m
def xh_rk (g : Nat) (A B C D : Bool) (m : Nat) : Nat :=
  match g with
  | 0 => if xh_me 0 A B C D m = 1 then 2 else 1
  | 1 => if xh_me 1 A B C D m = 0 then 2 else 1
  | 2 => cond A 2 1
  | 3 => cond A 0 1
  | 4 => cond (xw_s A B (m % 2 == 1)) 2 1
  | 5 => cond (xw_s C D (m / 2 == 1)) 2 (cond (xw_s A B (m % 2 == 1)) 1 0)
  | 6 => xp_r A C B D (m % 2 == 1)
  | 7 => xp_r B D A C (m % 2 == 1) + 1
  | _ => if xh_me 8 A B C D m = 1 then 2 else 1
section
variable {n : Nat} {hd rn so : Int32} {pl mv st ro ma it wo tu : Nat → Int32}
theorem xw_in {post : Int32 → Prop} {s v : Nat} (hs : s < 4) (hv : v < 32) : wpX_isIn post (nI n, hd, rn, so, pl, mv, st, ro, ma, it, wo, tu) (nI s) (nI v) = post (xb_i (bt (st s) v)) := by
  apply propext
  show (vp_in (nI s) 4 ∧ ((st (nI s).toNatClampNeg >>> (nI v &&& 31)) &&& 1 = 1 → post 1) ∧ (¬ (st (nI s).toNatClampNeg >>> (nI v &&& 31)) &&& 1 = 1 → post 0)) ↔ _
  rw [nI_clamp (by omega), ms_test1 _ hv]
  cases h : bt (st s) v with
  | true => exact ⟨fun z => z.2.1 rfl, fun z => ⟨vp_in_nI hs (by decide), fun _ => z, fun y => absurd rfl y⟩⟩
  | false => exact ⟨fun z => z.2.2 (by decide), fun z => ⟨vp_in_nI hs (by decide), fun y => absurd y (by decide), fun _ => z⟩⟩
theorem xw_in0 {post : Int32 → Prop} {v : Nat} (hv : v < 32) : wpX_isIn post (nI n, hd, rn, so, pl, mv, st, ro, ma, it, wo, tu) 0 (nI v) = post (xb_i (bt (st 0) v)) := xw_in (s := 0) (by decide) hv
theorem xw_in1 {post : Int32 → Prop} {v : Nat} (hv : v < 32) : wpX_isIn post (nI n, hd, rn, so, pl, mv, st, ro, ma, it, wo, tu) 1 (nI v) = post (xb_i (bt (st 1) v)) := xw_in (s := 1) (by decide) hv
theorem xw_in2 {post : Int32 → Prop} {v : Nat} (hv : v < 32) : wpX_isIn post (nI n, hd, rn, so, pl, mv, st, ro, ma, it, wo, tu) 2 (nI v) = post (xb_i (bt (st 2) v)) := xw_in (s := 2) (by decide) hv
theorem xw_in3 {post : Int32 → Prop} {v : Nat} (hv : v < 32) : wpX_isIn post (nI n, hd, rn, so, pl, mv, st, ro, ma, it, wo, tu) 3 (nI v) = post (xb_i (bt (st 3) v)) := xw_in (s := 3) (by decide) hv
theorem xw_waits0 {post : Int32 → SX → Prop} {v : Nat} (hv : v < 32) (l : Bool)
    (hp : post (xb_i (xw_s (bt (st 0) v) (bt (st 1) v) l)) (nI n, xb_i (xw_h (bt (st 0) v) (bt (st 1) v) l), rn, so, pl, mv, st, ro, ma, it, wo, tu)) :
    wpX_waitsThrough post (nI n, hd, rn, so, pl, mv, st, ro, ma, it, wo, tu) 0 (nI v) (xb_i l) := by
  simp only [wpX_waitsThrough, wX_waitsThrough_17, wX_waitsThrough_18, wX_waitsThrough_30, wX_waitsThrough_45, wX_waitsThrough_46, xw_in0 hv, show (0 : Int32) + 1 = 1 from rfl, xw_in1 hv]
  revert hp
  cases l <;> cases bt (st 0) v <;> cases bt (st 1) v <;> simp [xw_s, xw_h, xb_i, narrow_b0, narrow_b1]
theorem xw_waits2 {post : Int32 → SX → Prop} {v : Nat} (hv : v < 32) (l : Bool)
    (hp : post (xb_i (xw_s (bt (st 2) v) (bt (st 3) v) l)) (nI n, xb_i (xw_h (bt (st 2) v) (bt (st 3) v) l), rn, so, pl, mv, st, ro, ma, it, wo, tu)) :
    wpX_waitsThrough post (nI n, hd, rn, so, pl, mv, st, ro, ma, it, wo, tu) 2 (nI v) (xb_i l) := by
  simp only [wpX_waitsThrough, wX_waitsThrough_17, wX_waitsThrough_18, wX_waitsThrough_30, wX_waitsThrough_45, wX_waitsThrough_46, xw_in2 hv, show (2 : Int32) + 1 = 3 from rfl, xw_in3 hv]
  revert hp
  cases l <;> cases bt (st 2) v <;> cases bt (st 3) v <;> simp [xw_s, xw_h, xb_i, narrow_b0, narrow_b1]
theorem xw_and1 : ∀ m, m < 4 → nI m &&& 1 = xb_i (m % 2 == 1) := by decide +kernel
theorem xw_sh1 : ∀ m, m < 4 → nI m >>> ((1 : Int32) &&& 31) = xb_i (m / 2 == 1) := by decide +kernel
theorem xw_pairs6 {post : SX → Prop} {v : Nat} (hv : v < 32) (l : Bool)
    (hp : post (nI n, xb_i (xp_m (bt (st 0) v) (bt (st 2) v) l), nI (xp_r (bt (st 0) v) (bt (st 2) v) (bt (st 1) v) (bt (st 3) v) l), so, pl, mv, st, ro, ma, it, wo, tu)) :
    wpX_hearPairs post (nI n, hd, rn, so, pl, mv, st, ro, ma, it, wo, tu) (nI v) (xb_i l) 0 1 := by
  cases l
  · simp only [wpX_hearPairs, xb_i, cond_false, show (1 : Int32) - 0 = 1 from rfl, show (1 : Int32) - 1 = 0 from rfl, show (0 : Int32) + 2 * 1 = 2 from rfl, show (0 : Int32) + 2 * 0 = 0 from rfl, show (1 : Int32) + 2 * 1 = 3 from rfl, show (1 : Int32) + 2 * 0 = 1 from rfl, wX_hearPairs_53, wX_hearPairs_94, wX_hearPairs_117, xw_in0 hv, xw_in1 hv, xw_in2 hv, xw_in3 hv]
    refine nm_e ?_
    simp only [show (1 : Int32) - 0 = 1 from rfl, show (1 : Int32) - 1 = 0 from rfl, show (0 : Int32) + 2 * 1 = 2 from rfl, show (0 : Int32) + 2 * 0 = 0 from rfl, show (1 : Int32) + 2 * 1 = 3 from rfl, show (1 : Int32) + 2 * 0 = 1 from rfl, xw_in0 hv, xw_in1 hv, xw_in2 hv, xw_in3 hv]
    revert hp
    cases bt (st 0) v <;> cases bt (st 1) v <;> cases bt (st 2) v <;> cases bt (st 3) v <;> (simp [xp_m, xp_r, xb_i]; try exact fun h => h)
  · simp only [wpX_hearPairs, xb_i, cond_true, show (1 : Int32) - 0 = 1 from rfl, show (1 : Int32) - 1 = 0 from rfl, show (0 : Int32) + 2 * 1 = 2 from rfl, show (0 : Int32) + 2 * 0 = 0 from rfl, show (1 : Int32) + 2 * 1 = 3 from rfl, show (1 : Int32) + 2 * 0 = 1 from rfl, wX_hearPairs_53, wX_hearPairs_94, wX_hearPairs_117, xw_in0 hv, xw_in1 hv, xw_in2 hv, xw_in3 hv]
    refine nm_e ?_
    simp only [show (1 : Int32) - 0 = 1 from rfl, show (1 : Int32) - 1 = 0 from rfl, show (0 : Int32) + 2 * 1 = 2 from rfl, show (0 : Int32) + 2 * 0 = 0 from rfl, show (1 : Int32) + 2 * 1 = 3 from rfl, show (1 : Int32) + 2 * 0 = 1 from rfl, xw_in0 hv, xw_in1 hv, xw_in2 hv, xw_in3 hv]
    revert hp
    cases bt (st 0) v <;> cases bt (st 1) v <;> cases bt (st 2) v <;> cases bt (st 3) v <;> (simp [xp_m, xp_r, xb_i]; try exact fun h => h)
theorem xw_pairs7 {post : SX → Prop} {v : Nat} (hv : v < 32) (l : Bool)
    (hp : post (nI n, xb_i (xp_m (bt (st 1) v) (bt (st 3) v) l), nI (xp_r (bt (st 1) v) (bt (st 3) v) (bt (st 0) v) (bt (st 2) v) l), so, pl, mv, st, ro, ma, it, wo, tu)) :
    wpX_hearPairs post (nI n, hd, rn, so, pl, mv, st, ro, ma, it, wo, tu) (nI v) (xb_i l) 1 0 := by
  cases l
  · simp only [wpX_hearPairs, xb_i, cond_false, show (1 : Int32) - 0 = 1 from rfl, show (1 : Int32) - 1 = 0 from rfl, show (0 : Int32) + 2 * 1 = 2 from rfl, show (0 : Int32) + 2 * 0 = 0 from rfl, show (1 : Int32) + 2 * 1 = 3 from rfl, show (1 : Int32) + 2 * 0 = 1 from rfl, wX_hearPairs_53, wX_hearPairs_94, wX_hearPairs_117, xw_in0 hv, xw_in1 hv, xw_in2 hv, xw_in3 hv]
    refine nm_e ?_
    simp only [show (1 : Int32) - 0 = 1 from rfl, show (1 : Int32) - 1 = 0 from rfl, show (0 : Int32) + 2 * 1 = 2 from rfl, show (0 : Int32) + 2 * 0 = 0 from rfl, show (1 : Int32) + 2 * 1 = 3 from rfl, show (1 : Int32) + 2 * 0 = 1 from rfl, xw_in0 hv, xw_in1 hv, xw_in2 hv, xw_in3 hv]
    revert hp
    cases bt (st 0) v <;> cases bt (st 1) v <;> cases bt (st 2) v <;> cases bt (st 3) v <;> (simp [xp_m, xp_r, xb_i]; try exact fun h => h)
  · simp only [wpX_hearPairs, xb_i, cond_true, show (1 : Int32) - 0 = 1 from rfl, show (1 : Int32) - 1 = 0 from rfl, show (0 : Int32) + 2 * 1 = 2 from rfl, show (0 : Int32) + 2 * 0 = 0 from rfl, show (1 : Int32) + 2 * 1 = 3 from rfl, show (1 : Int32) + 2 * 0 = 1 from rfl, wX_hearPairs_53, wX_hearPairs_94, wX_hearPairs_117, xw_in0 hv, xw_in1 hv, xw_in2 hv, xw_in3 hv]
    refine nm_e ?_
    simp only [show (1 : Int32) - 0 = 1 from rfl, show (1 : Int32) - 1 = 0 from rfl, show (0 : Int32) + 2 * 1 = 2 from rfl, show (0 : Int32) + 2 * 0 = 0 from rfl, show (1 : Int32) + 2 * 1 = 3 from rfl, show (1 : Int32) + 2 * 0 = 1 from rfl, xw_in0 hv, xw_in1 hv, xw_in2 hv, xw_in3 hv]
    revert hp
    cases bt (st 0) v <;> cases bt (st 1) v <;> cases bt (st 2) v <;> cases bt (st 3) v <;> (simp [xp_m, xp_r, xb_i]; try exact fun h => h)
theorem xw_once0 {post : SX → Prop} {v : Nat} (hv : v < 32) : ∀ m, m < 4 →
    post (nI n, nI (xh_me 0 (bt (st 0) v) (bt (st 1) v) (bt (st 2) v) (bt (st 3) v) m), nI (xh_rk 0 (bt (st 0) v) (bt (st 1) v) (bt (st 2) v) (bt (st 3) v) m), so, pl, mv, st, ro, ma, it, wo, tu) →
    wpX_hearOnce post (nI n, hd, rn, so, pl, mv, st, ro, ma, it, wo, tu) 0 (nI v) (nI m) := by
  intro m hm
  simp only [wpX_hearOnce, wX_hearOnce_28, wX_hearOnce_34, wX_hearOnce_58, wX_hearOnce_64, wX_hearOnce_96, wX_hearOnce_99, wX_hearOnce_132, xw_in0 hv, xw_in1 hv, xw_in2 hv, xw_in3 hv]
  have h4 : m = 0 ∨ m = 1 ∨ m = 2 ∨ m = 3 := by omega
  rcases h4 with h | h | h | h <;> subst h
  · rw [nI_0]
    cases bt (st 0) v <;> cases bt (st 1) v <;> (simp [xh_me, xh_rk, xb_i]; try exact fun h => h)
  · rw [show nI 1 = 1 from rfl]
    (simp [xh_me, xh_rk, xb_i]; try exact fun h => h)
  · rw [show nI 2 = 2 from rfl]
    (simp [xh_me, xh_rk, xb_i]; try exact fun h => h)
  · rw [show nI 3 = 3 from rfl]
    (simp [xh_me, xh_rk, xb_i]; try exact fun h => h)
theorem xw_once1 {post : SX → Prop} {v : Nat} (hv : v < 32) : ∀ m, m < 4 →
    post (nI n, nI (xh_me 1 (bt (st 0) v) (bt (st 1) v) (bt (st 2) v) (bt (st 3) v) m), nI (xh_rk 1 (bt (st 0) v) (bt (st 1) v) (bt (st 2) v) (bt (st 3) v) m), so, pl, mv, st, ro, ma, it, wo, tu) →
    wpX_hearOnce post (nI n, hd, rn, so, pl, mv, st, ro, ma, it, wo, tu) 1 (nI v) (nI m) := by
  intro m hm
  simp only [wpX_hearOnce, wX_hearOnce_28, wX_hearOnce_34, wX_hearOnce_58, wX_hearOnce_64, wX_hearOnce_96, wX_hearOnce_99, wX_hearOnce_132, xw_in0 hv, xw_in1 hv, xw_in2 hv, xw_in3 hv]
  have h4 : m = 0 ∨ m = 1 ∨ m = 2 ∨ m = 3 := by omega
  rcases h4 with h | h | h | h <;> subst h
  · rw [nI_0]
    cases bt (st 0) v <;> cases bt (st 1) v <;> (simp [xh_me, xh_rk, xb_i]; try exact fun h => h)
  · rw [show nI 1 = 1 from rfl]
    (simp [xh_me, xh_rk, xb_i]; try exact fun h => h)
  · rw [show nI 2 = 2 from rfl]
    (simp [xh_me, xh_rk, xb_i]; try exact fun h => h)
  · rw [show nI 3 = 3 from rfl]
    (simp [xh_me, xh_rk, xb_i]; try exact fun h => h)
theorem xw_once8 {post : SX → Prop} {v : Nat} (hv : v < 32) : ∀ m, m < 4 →
    post (nI n, nI (xh_me 8 (bt (st 0) v) (bt (st 1) v) (bt (st 2) v) (bt (st 3) v) m), nI (xh_rk 8 (bt (st 0) v) (bt (st 1) v) (bt (st 2) v) (bt (st 3) v) m), so, pl, mv, st, ro, ma, it, wo, tu) →
    wpX_hearOnce post (nI n, hd, rn, so, pl, mv, st, ro, ma, it, wo, tu) 8 (nI v) (nI m) := by
  intro m hm
  simp only [wpX_hearOnce, wX_hearOnce_28, wX_hearOnce_34, wX_hearOnce_58, wX_hearOnce_64, wX_hearOnce_96, wX_hearOnce_99, wX_hearOnce_132, xw_in0 hv, xw_in1 hv, xw_in2 hv, xw_in3 hv]
  have h4 : m = 0 ∨ m = 1 ∨ m = 2 ∨ m = 3 := by omega
  rcases h4 with h | h | h | h <;> subst h
  · rw [nI_0]
    cases bt (st 0) v <;> cases bt (st 1) v <;> (simp [xh_me, xh_rk, xb_i]; try exact fun h => h)
  · rw [show nI 1 = 1 from rfl]
    (simp [xh_me, xh_rk, xb_i]; try exact fun h => h)
  · rw [show nI 2 = 2 from rfl]
    (simp [xh_me, xh_rk, xb_i]; try exact fun h => h)
  · rw [show nI 3 = 3 from rfl]
    (simp [xh_me, xh_rk, xb_i]; try exact fun h => h)
end
end
section
/-! the component: hear, the field of places -/
def xf_rk (st : Nat → Int32) (g x : Nat) : Nat := xh_rk g (bt (st 0) (x / 4)) (bt (st 1) (x / 4)) (bt (st 2) (x / 4)) (bt (st 3) (x / 4)) (x % 4)
def xf_me (st : Nat → Int32) (g x : Nat) : Nat := xh_me g (bt (st 0) (x / 4)) (bt (st 1) (x / 4)) (bt (st 2) (x / 4)) (bt (st 3) (x / 4)) (x % 4)
theorem xb_nat (b : Bool) : xb_i b = nI b.toNat := by cases b <;> rfl
section
variable {n : Nat} {hd rn so : Int32} {pl mv st ro ma it wo tu : Nat → Int32}
theorem xw_hear {post : SX → Prop} {v : Nat} (hv : v < 32) {g : Nat} (hg : g < 9) {m : Nat} (hm : m < 4)
    (hp : post (nI n, nI (xh_me g (bt (st 0) v) (bt (st 1) v) (bt (st 2) v) (bt (st 3) v) m), nI (xh_rk g (bt (st 0) v) (bt (st 1) v) (bt (st 2) v) (bt (st 3) v) m), so, pl, mv, st, ro, ma, it, wo, tu)) :
    wpX_hear post (nI n, hd, rn, so, pl, mv, st, ro, ma, it, wo, tu) (nI g) (nI v) (nI m) := by
  unfold wpX_hear
  dsimp only
  match g, hg, hp with
  | 0, _, hp => exact br_t rfl (xw_once0 hv m hm hp)
  | 1, _, hp => exact br_f (by decide) (br_t rfl (xw_once1 hv m hm hp))
  | 8, _, hp => exact br_f (by decide) (br_f (by decide) (br_t rfl (xw_once8 hv m hm hp)))
  | 2, _, hp =>
    refine br_f (by decide) (br_f (by decide) (br_f (by decide) (br_t rfl ?_)))
    rw [xw_in0 hv]
    revert hp
    cases bt (st 0) v
    · exact fun hp => br_t rfl hp
    · exact fun hp => br_f (by decide) hp
  | 3, _, hp =>
    refine br_f (by decide) (br_f (by decide) (br_f (by decide) (br_f (by decide) (br_t rfl ?_))))
    rw [xw_in0 hv]
    revert hp
    cases bt (st 0) v
    · exact fun hp => br_t rfl hp
    · exact fun hp => br_f (by decide) hp
  | 4, _, hp =>
    refine br_f (by decide) (br_f (by decide) (br_f (by decide) (br_f (by decide) (br_f (by decide) (br_t rfl ?_)))))
    rw [xw_and1 m hm]
    refine xw_waits0 hv _ ?_
    dsimp only
    have e1 : xh_me 4 (bt (st 0) v) (bt (st 1) v) (bt (st 2) v) (bt (st 3) v) m = (xw_h (bt (st 0) v) (bt (st 1) v) (m % 2 == 1)).toNat := rfl
    have e2 : xh_rk 4 (bt (st 0) v) (bt (st 1) v) (bt (st 2) v) (bt (st 3) v) m = cond (xw_s (bt (st 0) v) (bt (st 1) v) (m % 2 == 1)) 2 1 := rfl
    rw [e1, e2, ← xb_nat] at hp
    revert hp
    cases xw_s (bt (st 0) v) (bt (st 1) v) (m % 2 == 1)
    · exact fun hp => br_t rfl hp
    · exact fun hp => br_f (by decide) hp
  | 5, _, hp =>
    refine br_f (by decide) (br_f (by decide) (br_f (by decide) (br_f (by decide) (br_f (by decide) (br_f (by decide) (br_t rfl ?_))))))
    unfold wpX_hearBoth
    dsimp only
    rw [xw_and1 m hm, xw_sh1 m hm]
    refine xw_waits0 hv _ ?_
    dsimp only
    refine xw_waits2 hv _ ?_
    dsimp only
    have e1 : xh_me 5 (bt (st 0) v) (bt (st 1) v) (bt (st 2) v) (bt (st 3) v) m = (xw_h (bt (st 0) v) (bt (st 1) v) (m % 2 == 1)).toNat + 2 * (xw_h (bt (st 2) v) (bt (st 3) v) (m / 2 == 1)).toNat := rfl
    have e2 : xh_rk 5 (bt (st 0) v) (bt (st 1) v) (bt (st 2) v) (bt (st 3) v) m = cond (xw_s (bt (st 2) v) (bt (st 3) v) (m / 2 == 1)) 2 (cond (xw_s (bt (st 0) v) (bt (st 1) v) (m % 2 == 1)) 1 0) := rfl
    rw [e1, e2] at hp
    refine nm_r (e' := nI ((xw_h (bt (st 0) v) (bt (st 1) v) (m % 2 == 1)).toNat + 2 * (xw_h (bt (st 2) v) (bt (st 3) v) (m / 2 == 1)).toNat)) ?_ ?_
    · rw [xb_nat, xb_nat, ← nI_add, ← pk_mul]
      rfl
    · revert hp
      cases xw_s (bt (st 2) v) (bt (st 3) v) (m / 2 == 1)
      · cases xw_s (bt (st 0) v) (bt (st 1) v) (m % 2 == 1)
        · exact fun hp => br_t rfl (br_t rfl hp)
        · exact fun hp => br_t rfl (br_f (by decide) hp)
      · exact fun hp => br_f (by decide) hp
  | 6, _, hp =>
    refine br_f (by decide) (br_f (by decide) (br_f (by decide) (br_f (by decide) (br_f (by decide) (br_f (by decide) (br_f (by decide) (br_t rfl ?_)))))))
    rw [xw_and1 m hm]
    refine xw_pairs6 hv _ ?_
    dsimp only
    rw [xb_nat]
    exact hp
  | 7, _, hp =>
    refine br_f (by decide) (br_f (by decide) (br_f (by decide) (br_f (by decide) (br_f (by decide) (br_f (by decide) (br_f (by decide) (br_f (by decide) ?_)))))))
    rw [xw_and1 m hm]
    refine xw_pairs7 hv _ ?_
    dsimp only
    rw [xb_nat]
    exact nm_r (nI_1 _) hp
theorem xw_lay (hn : n ≤ 10) {g : Nat} (hg : g < 9) {post : SX → Prop}
    (hp : ∀ hd rn ro ma it, (∀ x, x < 4 * n → ro x = nI (xf_rk st g x) ∧ ma x = nI (xf_me st g x) ∧ it x = 0) → post (nI n, hd, rn, so, pl, mv, st, ro, ma, it, wo, tu)) :
    wpX_layField post (nI n, hd, rn, so, pl, mv, st, ro, ma, it, wo, tu) (nI g) := by
  have e4 : (4 : Int32) * nI n = nI (4 * n) := pk_mul 4 n
  have key : ∀ d x hd rn ro ma it, x + d = 4 * n → (∀ y, y < x → ro y = nI (xf_rk st g y) ∧ ma y = nI (xf_me st g y) ∧ it y = 0) →
      wX_layField_2 post (nI g) (d + 1) (nI x) (nI n) hd rn so pl mv st ro ma it wo tu := by
    intro d
    induction d with
    | zero =>
      intro x hd rn ro ma it hx hI
      refine br_t (by rw [e4]; exact nI_le (by omega) (by omega)) (hp hd rn ro ma it fun y hy => hI y (by omega))
    | succ d ih =>
      intro x hd rn ro ma it hx hI
      refine br_f (by rw [e4]; exact nI_ge (by omega) (by omega)) ⟨by decide, by decide, ?_⟩
      have ed : nI x / 4 = nI (x / 4) := pk_div (d := 4) (by omega) (by decide) (by decide)
      have er : nI x - nI x / 4 * 4 = nI (x % 4) := pk_rem (d := 4) (by omega) (by decide) (by decide)
      rw [er, ed]
      refine xw_hear (v := x / 4) (by omega) hg (m := x % 4) (Nat.mod_lt _ (by decide)) ?_
      dsimp only
      rw [nI_clamp (by omega)]
      have hin : vp_in (nI x) 40 := vp_in_nI (by omega) (by decide)
      refine ⟨hin, nm_e ⟨hin, nm_e ⟨hin, nm_e (nm_r (nI_1 x) (ih (x + 1) _ _ _ _ _ (by omega) ?_))⟩⟩⟩
      intro y hy
      by_cases h : y = x
      · subst h
        rw [pk_us, pk_us, pk_us]
        exact ⟨rfl, rfl, rfl⟩
      · rw [pk_un h, pk_un h, pk_un h]
        exact hI y (by omega)
  exact ⟨4 * n + 1, key (4 * n) 0 hd rn ro ma it (by omega) (fun y hy => absurd hy (by omega))⟩
end
end
section
/-! the component: seems, afterMove, turnRank -/
theorem xb_odd : ∀ k, k < 7 → nI k &&& 1 = xb_i (pg_odd k) := by decide +kernel
theorem xb_no (b : Bool) : 1 - xb_i b = xb_i (!b) := by cases b <;> rfl
theorem xb_nar (b : Bool) : vp_nar .boolean (xb_i b) = xb_i b := by cases b <;> rfl
theorem xb_narv (b : Bool) : narrow .boolean (.int (xb_i b)) = .int (xb_i b) := by cases b <;> rfl
theorem xb_0 (b : Bool) : xb_i b = 0 ↔ b = false := by cases b <;> decide
theorem xb_eq (a b : Bool) : xb_i a = xb_i b ↔ a = b := by cases a <;> cases b <;> decide
def xz_Z (rk : Nat → Nat) (T : Nat → Bool) (y : Nat) : Prop := (pg_odd (rk y) ^^ T y) = false
def xz_S (n : Nat) (pl mv : Nat → Int32) (rk me : Nat → Nat) (T : Nat → Bool) (y : Nat) : Prop := ∃ h : y / 4 < n, fo_F n pl mv 0 (fun w => xz_Z rk T (4 * w.1 + me y)) ⟨y / 4, h⟩
def xz_A (n : Nat) (ro ma it : Nat → Int32) (rk me : Nat → Nat) (T : Nat → Bool) : Prop := ∀ y, y < 4 * n → ro y = nI (rk y) ∧ rk y < 7 ∧ ma y = nI (me y) ∧ me y < 4 ∧ it y = xb_i (T y)
noncomputable def xz_1 (n : Nat) (pl mv : Nat → Int32) (rk me : Nat → Nat) (T : Nat → Bool) (r y : Nat) : Bool :=
  if rk y = r ∧ T y = false then @decide (xz_S n pl mv rk me T y ↔ pg_odd r = true) (Classical.propDecidable _) else T y
noncomputable def xz_2 (n : Nat) (pl mv : Nat → Int32) (rk me : Nat → Nat) (T : Nat → Bool) (r y : Nat) : Bool := if rk y < r then false else xz_1 n pl mv rk me T r y
section
variable {n : Nat} {hd rn so : Int32} {pl mv st ro ma it wo tu : Nat → Int32} {rk me : Nat → Nat} {T : Nat → Bool}
theorem xw_seems (hn : n ≤ 10) (hA : xz_A n ro ma it rk me T) {y : Nat} (hy : y < 4 * n) {post : Int32 → Prop} (hp : post (xb_i (pg_odd (rk y) ^^ T y))) :
    wpX_seems post (nI n, hd, rn, so, pl, mv, st, ro, ma, it, wo, tu) (nI y) := by
  obtain ⟨h1, h2, _, _, h5⟩ := hA y hy
  have hin : vp_in (nI y) 40 := vp_in_nI (by omega) (by decide)
  refine ⟨hin, ?_⟩
  rw [nI_clamp (by omega), h1, h5, xb_odd _ h2]
  revert hp
  cases T y
  · intro hp
    rw [Bool.xor_false] at hp
    exact br_t rfl ⟨hin, hp⟩
  · intro hp
    rw [Bool.xor_true] at hp
    refine br_f (by decide) ⟨hin, ?_⟩
    rw [xb_no]
    exact hp
theorem xw_after (hD : ms_D n pl mv) (hA : xz_A n ro ma it rk me T) {x : Nat} (hx : x < 4 * n) {post : Int32 → Prop} (hp : ∀ r : Bool, (r = false ↔ xz_S n pl mv rk me T x) → post (xb_i r)) :
    wpX_afterMove post (nI n, hd, rn, so, pl, mv, st, ro, ma, it, wo, tu) (nI x) := by
  have hn := hD.1
  have hv : x / 4 < n := by omega
  obtain ⟨pm, hpm⟩ : ∃ pm : Bool, pl (x / 4) = xb_i pm := by
    rcases (hD.2 (x / 4) hv).1 with h | h
    · exact ⟨false, h⟩
    · exact ⟨true, h⟩
  obtain ⟨_, _, hma, hme, _⟩ := hA x hx
  have fin : ∀ a : Bool, (a = true ↔ ∃ w, w < n ∧ bt (mv (x / 4)) w = true ∧ (pg_odd (rk (4 * w + me x)) ^^ T (4 * w + me x)) = pm) → ((cond a pm (!pm)) = false ↔ xz_S n pl mv rk me T x) := by
    intro a ha
    cases pm with
    | false =>
      have e0 : pl (x / 4) = 0 := hpm
      constructor
      · intro h
        have hat : a = true := by
          revert h
          cases a <;> decide
        obtain ⟨w, hw, h1, h2⟩ := ha.mp hat
        exact ⟨hv, fun _ => ⟨⟨w, hw⟩, h1, h2⟩, fun z => absurd e0 z⟩
      · intro ⟨_, h⟩
        obtain ⟨w, h1, h2⟩ := h.1 e0
        rw [ha.mpr ⟨w.1, w.2, h1, h2⟩]
        rfl
    | true =>
      have e0 : ¬ pl (x / 4) = 0 := by rw [hpm]; decide
      constructor
      · intro h
        have hat : ¬ a = true := by
          revert h
          cases a <;> decide
        refine ⟨hv, fun z => absurd z e0, fun _ w hw => ?_⟩
        show (pg_odd (rk (4 * w.1 + me x)) ^^ T (4 * w.1 + me x)) = false
        cases hb : (pg_odd (rk (4 * w.1 + me x)) ^^ T (4 * w.1 + me x)) with
        | false => rfl
        | true => exact absurd (ha.mpr ⟨w.1, w.2, hw, hb⟩) hat
      · intro ⟨_, h⟩
        cases hb : a with
        | false => rfl
        | true =>
          obtain ⟨w, hw, h1, h2⟩ := ha.mp hb
          have h3 := h.2 e0 ⟨w, hw⟩ h1
          have h4 : (pg_odd (rk (4 * w + me x)) ^^ T (4 * w + me x)) = false := h3
          rw [h4] at h2
          exact absurd h2 (by decide)
  have key : ∀ d j (a : Bool), j + d = n → (a = true ↔ ∃ w, w < j ∧ bt (mv (x / 4)) w = true ∧ (pg_odd (rk (4 * w + me x)) ^^ T (4 * w + me x)) = pm) →
      wX_afterMove_17 post (nI x) (nI (x / 4)) (xb_i pm) (nI n) hd rn so pl mv st ro ma it wo tu (d + 1) (xb_i a) (nI j) := by
    intro d
    induction d with
    | zero =>
      intro j a hj ha
      have ej : j = n := by omega
      subst ej
      have f := fin a ha
      refine br_t (nI_le (by omega) (by omega)) ?_
      revert f
      cases a
      · intro f
        refine br_t rfl ?_
        rw [xb_no]
        exact hp _ f
      · intro f
        exact br_f (by decide) (hp _ f)
    | succ d ih =>
      intro j a hj ha
      refine br_f (nI_ge (by omega) (by omega)) ⟨vp_in_nI (by omega) (by decide), ?_⟩
      rw [nI_clamp (by omega), ms_test1 _ (by omega)]
      have stepT : a = true → (true = true ↔ ∃ w, w < j + 1 ∧ bt (mv (x / 4)) w = true ∧ (pg_odd (rk (4 * w + me x)) ^^ T (4 * w + me x)) = pm) := by
        intro h
        obtain ⟨w, hw, h1⟩ := ha.mp h
        exact ⟨fun _ => ⟨w, by omega, h1⟩, fun _ => rfl⟩
      have stepF : ¬ (bt (mv (x / 4)) j = true ∧ (pg_odd (rk (4 * j + me x)) ^^ T (4 * j + me x)) = pm) → (a = true ↔ ∃ w, w < j + 1 ∧ bt (mv (x / 4)) w = true ∧ (pg_odd (rk (4 * w + me x)) ^^ T (4 * w + me x)) = pm) := by
        intro h
        constructor
        · intro h1
          obtain ⟨w, hw, h2⟩ := ha.mp h1
          exact ⟨w, by omega, h2⟩
        · intro ⟨w, hw, h2⟩
          refine ha.mpr ⟨w, ?_, h2⟩
          have : w ≠ j := fun e => h (e ▸ h2)
          omega
      by_cases hb : bt (mv (x / 4)) j = true
      · refine br_t hb ?_
        cases a with
        | true => exact br_f (by decide) (nm_r (nI_1 j) (ih (j + 1) true (by omega) (stepT rfl)))
        | false =>
          refine br_t rfl (br_f (by decide) ⟨vp_in_nI (by omega) (by decide), ?_⟩)
          rw [nI_clamp (by omega), hma]
          have e4 : (4 : Int32) * nI j + nI (me x) = nI (4 * j + me x) := by
            rw [← nI_add, ← pk_mul]
            rfl
          rw [e4]
          refine xw_seems hn hA (by omega) ?_
          by_cases hs : (pg_odd (rk (4 * j + me x)) ^^ T (4 * j + me x)) = pm
          · rw [hs]
            refine br_t rfl (nm_r (nI_1 j) (ih (j + 1) true (by omega) ⟨fun _ => ⟨j, by omega, hb, hs⟩, fun _ => rfl⟩))
          · refine br_f (fun z => hs ((xb_eq _ _).mp z)) (nm_r (nI_1 j) (ih (j + 1) false (by omega) (stepF fun z => hs z.2)))
      · refine br_f hb ?_
        cases a with
        | true => exact br_f (by decide) (nm_r (nI_1 j) (ih (j + 1) true (by omega) (stepT rfl)))
        | false => exact br_t rfl (br_t rfl (nm_r (nI_1 j) (ih (j + 1) false (by omega) (stepF fun z => hb z.1))))
  have ed : nI x / 4 = nI (x / 4) := pk_div (d := 4) (by omega) (by decide) (by decide)
  refine ⟨by decide, nm_r ed ⟨vp_in_nI (by omega) (by decide), ?_⟩⟩
  rw [nI_clamp (by omega)]
  refine nm_r hpm ⟨n + 1, key n 0 false (by omega) ⟨fun z => absurd z (by decide), fun ⟨w, hw, _⟩ => absurd hw (by omega)⟩⟩
theorem xw_turn (hD : ms_D n pl mv) (hA : xz_A n ro ma it rk me T) {r : Nat} (hr : r < 7) {post : Int32 → SX → Prop}
    (hp0 : (∀ y, y < 4 * n → rk y = r → T y = false → xz_1 n pl mv rk me T r y = false) → ∀ tu, post 0 (nI n, hd, rn, so, pl, mv, st, ro, ma, it, wo, tu))
    (hp1 : (∃ y, y < 4 * n ∧ rk y = r ∧ T y = false ∧ xz_1 n pl mv rk me T r y = true) → ∀ it tu, (∀ y, y < 4 * n → it y = xb_i (xz_2 n pl mv rk me T r y)) → post 1 (nI n, hd, rn, so, pl, mv, st, ro, ma, it, wo, tu)) :
    wpX_turnRank post (nI n, hd, rn, so, pl, mv, st, ro, ma, it, wo, tu) (nI r) := by
  have hn := hD.1
  have e4 : (4 : Int32) * nI n = nI (4 * n) := pk_mul 4 n
  -- the second loop
  have key2 : ∀ tu, (∀ y, y < 4 * n → tu y = xb_i (xz_1 n pl mv rk me T r y)) → (∃ y, y < 4 * n ∧ rk y = r ∧ T y = false ∧ xz_1 n pl mv rk me T r y = true) → ∀ d x it', x + d = 4 * n →
      (∀ y, y < x → it' y = xb_i (xz_2 n pl mv rk me T r y)) → (∀ y, x ≤ y → it' y = it y) → wX_turnRank_101 post (nI r) (xb_i true) (nI n) hd rn so (d + 1) (nI x) pl mv st ro ma it' wo tu := by
    intro tu htu hex d
    induction d with
    | zero =>
      intro x it' hx h1 _
      refine br_t (by rw [e4]; exact nI_le (by omega) (by omega)) ⟨xb_narv true, hp1 hex it' tu fun y hy => h1 y (by omega)⟩
    | succ d ih =>
      intro x it' hx h1 h2
      have hin : vp_in (nI x) 40 := vp_in_nI (by omega) (by decide)
      obtain ⟨hro, hrk, _, _, hit⟩ := hA x (by omega)
      refine br_f (by rw [e4]; exact nI_ge (by omega) (by omega)) (br_f (by decide) ⟨hin, ?_⟩)
      rw [nI_clamp (by omega), hro, htu x (by omega), h2 x (Nat.le_refl x), hit]
      have next : ∀ b : Bool, b = xz_2 n pl mv rk me T r x → ∀ z, z = upd it' x (xb_i b) → ∀ x3, x3 = nI x + 1 → wX_turnRank_101 post (nI r) (xb_i true) (nI n) hd rn so (d + 1) x3 pl mv st ro ma z wo tu := by
        intro b hb
        refine nm_e (nm_r (nI_1 x) (ih (x + 1) _ (by omega) ?_ ?_))
        · intro y hy
          by_cases h : y = x
          · subst h
            rw [pk_us, hb]
          · rw [pk_un h]
            exact h1 y (by omega)
        · intro y hy
          rw [pk_un (by omega)]
          exact h2 y (by omega)
      rcases Nat.lt_or_ge (rk x) r with h | h
      · refine br_f (nI_ge h (by omega)) ⟨hin, ?_⟩
        have e : xz_2 n pl mv rk me T r x = false := if_pos h
        exact next false e.symm
      · refine br_t (nI_le h (by omega)) ⟨hin, ?_⟩
        have e : xz_2 n pl mv rk me T r x = xz_1 n pl mv rk me T r x := if_neg (by omega)
        by_cases h3 : rk x = r
        · refine br_t (by rw [h3]) ⟨hin, hin, ?_⟩
          rw [xb_nar]
          exact next _ e.symm
        · refine br_f (fun z => h3 ((nI_eq (by omega) (by omega)).mp z)) ⟨hin, hin, ?_⟩
          rw [xb_nar]
          have e2 : xz_1 n pl mv rk me T r x = T x := if_neg (fun z => h3 z.1)
          exact next _ (by rw [e, e2])
  -- the first loop
  have key1 : ∀ d x (a : Bool) tu, x + d = 4 * n → (∀ y, y < x → tu y = xb_i (xz_1 n pl mv rk me T r y)) → (a = true ↔ ∃ y, y < x ∧ rk y = r ∧ T y = false ∧ xz_1 n pl mv rk me T r y = true) →
      wX_turnRank_4 post (nI r) (nI n) hd rn so (d + 1) (xb_i a) (nI x) pl mv st ro ma it wo tu := by
    intro d
    induction d with
    | zero =>
      intro x a tu hx htu ha
      have ex : x = 4 * n := by omega
      subst ex
      refine br_t (by rw [e4]; exact nI_le (by omega) (by omega)) ?_
      cases a with
      | true => exact ⟨4 * n + 1, key2 tu htu (ha.mp rfl) (4 * n) 0 it (by omega) (fun y hy => absurd hy (by omega)) (fun y _ => rfl)⟩
      | false =>
        have hno := hp0 (fun y hy h1 h2 => by
          cases hb : xz_1 n pl mv rk me T r y with
          | false => rfl
          | true => exact absurd (ha.mpr ⟨y, hy, h1, h2, hb⟩) (by decide)) tu
        refine ⟨1, ?_⟩
        refine br_c (fun _ => ⟨xb_narv false, hno⟩) (fun _ => br_t rfl ⟨xb_narv false, hno⟩)
    | succ d ih =>
      intro x a tu hx htu ha
      have hin : vp_in (nI x) 40 := vp_in_nI (by omega) (by decide)
      obtain ⟨hro, hrk, _, _, hit⟩ := hA x (by omega)
      refine br_f (by rw [e4]; exact nI_ge (by omega) (by omega)) ⟨hin, ?_⟩
      rw [nI_clamp (by omega), hro, hit]
      have hcl : (nI x).toNatClampNeg = x := nI_clamp (by omega)
      have tun : ∀ b : Bool, b = xz_1 n pl mv rk me T r x → ∀ y, y < x + 1 → upd tu x (xb_i b) y = xb_i (xz_1 n pl mv rk me T r y) := by
        intro b hb y hy
        by_cases h : y = x
        · subst h
          rw [pk_us, hb]
        · rw [pk_un h]
          exact htu y (by omega)
      have keep : ¬ (rk x = r ∧ T x = false) → wX_turnRank_81 post (wX_turnRank_4 post (nI r) (nI n) hd rn so (d + 1)) (nI r) (xb_i a) (nI x) (nI n) hd rn so pl mv st ro ma it wo tu := by
        intro hno
        refine ⟨hin, hin, ?_⟩
        rw [hcl, hit, xb_nar]
        have e : T x = xz_1 n pl mv rk me T r x := (if_neg hno).symm
        refine nm_e (nm_r (nI_1 x) (ih (x + 1) a _ (by omega) (tun _ e) ?_))
        rw [ha]
        constructor
        · intro ⟨y, hy, h⟩
          exact ⟨y, by omega, h⟩
        · intro ⟨y, hy, h⟩
          refine ⟨y, ?_, h⟩
          have : y ≠ x := fun e => hno (e ▸ ⟨h.1, h.2.1⟩)
          omega
      have new : rk x = r → T x = false → ∀ b : Bool, b = xz_1 n pl mv rk me T r x → wX_turnRank_58 post (wX_turnRank_4 post (nI r) (nI n) hd rn so (d + 1)) (nI r) (xb_i a) (nI x) (xb_i b) (nI x) (nI n) hd rn so pl mv st ro ma it wo tu := by
        intro h1 h2 b hb
        refine ⟨hin, ?_⟩
        rw [hcl, xb_nar]
        refine nm_e ?_
        rw [pk_us]
        have go : ∀ c : Bool, (c = (a || b)) → ∀ x3, x3 = nI x + 1 → wX_turnRank_4 post (nI r) (nI n) hd rn so (d + 1) (xb_i c) x3 pl mv st ro ma it wo (upd tu x (xb_i b)) := by
          intro c hc
          refine nm_r (nI_1 x) (ih (x + 1) c _ (by omega) (tun b hb) ?_)
          rw [hc, Bool.or_eq_true, ha]
          constructor
          · intro h
            rcases h with ⟨y, hy, h⟩ | h
            · exact ⟨y, by omega, h⟩
            · exact ⟨x, by omega, h1, h2, hb ▸ h⟩
          · intro ⟨y, hy, h⟩
            by_cases hyx : y = x
            · subst hyx
              exact Or.inr (hb.trans h.2.2)
            · exact Or.inl ⟨y, by omega, h⟩
        cases a with
        | true => exact br_f (by decide) (go true rfl)
        | false =>
          refine br_t rfl ⟨hin, ?_⟩
          cases b with
          | true => exact br_f (by decide) (go true rfl)
          | false => exact br_t rfl (go false rfl)
      by_cases h1 : rk x = r
      · refine br_t (by rw [h1]) ⟨hin, ?_⟩
        cases h2 : T x with
        | true =>
          refine br_f (by decide) (keep fun z => ?_)
          have := z.2
          rw [h2] at this
          exact absurd this (by decide)
        | false =>
          refine br_t rfl (xw_after hD hA (by omega) ?_)
          intro w hw
          rw [xb_odd r hr]
          have e1 : xz_1 n pl mv rk me T r x = @decide (xz_S n pl mv rk me T x ↔ pg_odd r = true) (Classical.propDecidable _) := if_pos ⟨h1, h2⟩
          by_cases hwr : w = pg_odd r
          · refine br_t (by rw [hwr]) (new h1 h2 false ?_)
            rw [e1]
            symm
            refine @decide_eq_false _ (Classical.propDecidable _) ?_
            intro hiff
            rw [← hw, hwr] at hiff
            cases ho : pg_odd r with
            | true =>
              rw [ho] at hiff
              exact absurd (hiff.mpr rfl) (by decide)
            | false =>
              rw [ho] at hiff
              exact absurd (hiff.mp rfl) (by decide)
          · refine br_f (fun z => hwr ((xb_eq _ _).mp z)) (new h1 h2 true ?_)
            rw [e1]
            symm
            refine @decide_eq_true _ (Classical.propDecidable _) ?_
            rw [← hw]
            revert hwr
            cases w <;> cases pg_odd r <;> decide
      · exact br_f (fun z => h1 ((nI_eq (by omega) (by omega)).mp z)) (keep fun z => h1 z.1)
  exact ⟨4 * n + 1, key1 (4 * n) 0 false tu (by omega) (fun y hy => absurd hy (by omega)) ⟨fun z => absurd z (by decide), fun ⟨y, hy, _⟩ => absurd hy (by omega)⟩⟩
end
end
section
/-! the component: the rounds, counted; solving the field -/
def xc_n (p : Nat → Bool) : Nat → Nat
  | 0 => 0
  | k + 1 => xc_n p k + (p k).toNat
theorem xc_le {p q : Nat → Bool} : ∀ N, (∀ y, y < N → p y = true → q y = true) → xc_n p N ≤ xc_n q N := by
  intro N
  induction N with
  | zero => exact fun _ => Nat.le_refl _
  | succ N ih =>
    intro h
    have h1 := ih (fun y hy => h y (by omega))
    have h2 := h N (by omega)
    show xc_n p N + (p N).toNat ≤ xc_n q N + (q N).toNat
    have h3 : (p N).toNat ≤ (q N).toNat := by
      revert h2
      cases p N <;> cases q N <;> decide
    omega
theorem xc_lt {p q : Nat → Bool} {y0 : Nat} (hq : q y0 = true) (hp : p y0 = false) : ∀ N, (∀ y, y < N → p y = true → q y = true) → y0 < N → xc_n p N < xc_n q N := by
  intro N
  induction N with
  | zero => exact fun _ h => absurd h (by omega)
  | succ N ih =>
    intro h hy
    show xc_n p N + (p N).toNat < xc_n q N + (q N).toNat
    by_cases e : y0 = N
    · subst e
      have h1 := xc_le y0 (fun y hy => h y (by omega))
      rw [hq, hp]
      show xc_n p y0 + 0 < xc_n q y0 + 1
      omega
    · have h1 := ih (fun y hy => h y (by omega)) (by omega)
      have h2 := h N (by omega)
      have h3 : (p N).toNat ≤ (q N).toNat := by
        revert h2
        cases p N <;> cases q N <;> decide
      omega
theorem xc_bd (p : Nat → Bool) : ∀ N, xc_n p N ≤ N := by
  intro N
  induction N with
  | zero => exact Nat.le_refl _
  | succ N ih =>
    show xc_n p N + (p N).toNat ≤ N + 1
    have : (p N).toNat ≤ 1 := by cases p N <;> decide
    omega
theorem xc_add {p q s : Nat → Bool} (h : ∀ y, (p y).toNat + (q y).toNat ≤ (s y).toNat) : ∀ N, xc_n p N + xc_n q N ≤ xc_n s N := by
  intro N
  induction N with
  | zero => exact Nat.le_refl _
  | succ N ih =>
    show xc_n p N + (p N).toNat + (xc_n q N + (q N).toNat) ≤ xc_n s N + (s N).toNat
    have := h N
    omega
def xc_Pr (c : Nat → Nat) : Nat → Nat
  | 0 => 1
  | s + 1 => xc_Pr c s * (c s + 1)
def xc_Pt (c U : Nat → Nat) : Nat → Nat
  | 0 => 0
  | s + 1 => U s * xc_Pr c s + xc_Pt c U s
theorem xc_Pt_lt {c U : Nat → Nat} (h : ∀ s, U s ≤ c s) : ∀ k, xc_Pt c U k < xc_Pr c k := by
  intro k
  induction k with
  | zero => exact Nat.zero_lt_one
  | succ k ih =>
    show U k * xc_Pr c k + xc_Pt c U k < xc_Pr c k * (c k + 1)
    have h1 : U k * xc_Pr c k ≤ c k * xc_Pr c k := Nat.mul_le_mul_right _ (h k)
    rw [Nat.mul_add, Nat.mul_one, Nat.mul_comm (xc_Pr c k) (c k)]
    omega
theorem xc_Pt_dec {c U U' : Nat → Nat} {r : Nat} (h : ∀ s, U' s ≤ c s) (hr : U' r < U r) (hs : ∀ s, r < s → U' s = U s) : ∀ k, r < k → xc_Pt c U' k < xc_Pt c U k := by
  intro k
  induction k with
  | zero => exact fun h => absurd h (by omega)
  | succ k ih =>
    intro hk
    show U' k * xc_Pr c k + xc_Pt c U' k < U k * xc_Pr c k + xc_Pt c U k
    by_cases e : r = k
    · subst e
      have h1 := xc_Pt_lt h r
      have h2 : (U' r + 1) * xc_Pr c r ≤ U r * xc_Pr c r := Nat.mul_le_mul_right _ hr
      rw [Nat.add_mul, Nat.one_mul] at h2
      omega
    · have h1 := ih (by omega)
      rw [hs k (by omega)]
      omega
def xc_sm (c : Nat → Nat) : Nat → Nat
  | 0 => 0
  | s + 1 => xc_sm c s + c s
theorem xc_41 : ∀ c, c < 41 → (c + 1) ^ 4 ≤ 41 * 2 ^ c := by decide +kernel
theorem xc_pow {c : Nat → Nat} (h : ∀ s, c s < 41) : ∀ k, (xc_Pr c k) ^ 4 ≤ 41 ^ k * 2 ^ (xc_sm c k) := by
  intro k
  induction k with
  | zero => exact Nat.le_refl 1
  | succ k ih =>
    show (xc_Pr c k * (c k + 1)) ^ 4 ≤ 41 ^ (k + 1) * 2 ^ (xc_sm c k + c k)
    rw [Nat.mul_pow, Nat.pow_succ 41 k, Nat.pow_add, Nat.mul_mul_mul_comm]
    exact Nat.mul_le_mul ih (xc_41 _ (h k))
theorem xc_bound {c : Nat → Nat} (h : ∀ s, c s < 41) (hs : xc_sm c 7 ≤ 40) : xc_Pr c 7 < 1000000 := by
  refine Nat.lt_of_not_le fun hh => ?_
  have h1 : 1000000 ^ 4 ≤ (xc_Pr c 7) ^ 4 := Nat.pow_le_pow_left hh 4
  have h2 := xc_pow h 7
  have h3 : 41 ^ 7 * 2 ^ (xc_sm c 7) ≤ 41 ^ 7 * 2 ^ 40 := Nat.mul_le_mul_left _ (Nat.pow_le_pow_right (by decide) hs)
  have h4 : ¬ (1000000 ^ 4 ≤ 41 ^ 7 * 2 ^ 40) := by decide
  exact h4 (Nat.le_trans h1 (Nat.le_trans h2 h3))
theorem xc_sum (rk : Nat → Nat) (N : Nat) : ∀ k, xc_sm (fun s => xc_n (fun y => rk y == s) N) k ≤ xc_n (fun y => decide (rk y < k)) N := by
  intro k
  induction k with
  | zero => exact Nat.zero_le _
  | succ k ih =>
    refine Nat.le_trans (Nat.add_le_add_right ih _) (xc_add (fun y => ?_) N)
    rcases Nat.lt_trichotomy (rk y) k with h | h | h
    · rw [decide_eq_true h, decide_eq_true (show rk y < k + 1 by omega), beq_false_of_ne (by omega)]
      decide
    · rw [decide_eq_false (show ¬ rk y < k by omega), decide_eq_true (show rk y < k + 1 by omega), h, beq_self_eq_true]
      decide
    · rw [decide_eq_false (show ¬ rk y < k by omega), decide_eq_false (show ¬ rk y < k + 1 by omega), beq_false_of_ne (by omega)]
      decide
def xu_c (rk : Nat → Nat) (N s : Nat) : Nat := xc_n (fun y => rk y == s) N
def xu_U (rk : Nat → Nat) (T : Nat → Bool) (N s : Nat) : Nat := xc_n (fun y => rk y == s && !T y) N
theorem xu_le (rk : Nat → Nat) (T : Nat → Bool) (N s : Nat) : xu_U rk T N s ≤ xu_c rk N s := xc_le N fun y _ h => by
  rw [Bool.and_eq_true] at h
  exact h.1
theorem xu_bound (rk : Nat → Nat) {N : Nat} (hN : N ≤ 40) : xc_Pr (xu_c rk N) 7 < 1000000 := by
  refine xc_bound (fun s => ?_) ?_
  · have := xc_bd (fun y => rk y == s) N
    show xc_n (fun y => rk y == s) N < 41
    omega
  · have h1 := xc_sum rk N 7
    have h2 := xc_bd (fun y => decide (rk y < 7)) N
    exact Nat.le_trans h1 (Nat.le_trans h2 hN)
/-! the arena of places -/
def xd_de {n : Nat} (me : Nat → Nat) (v : Fin n) (m : Fin 4) : Fin 4 := ⟨me (4 * v.1 + m.1) % 4, Nat.mod_lt _ (by decide)⟩
def xd_rk {n : Nat} (rk : Nat → Nat) (x : Fin n × Fin 4) : Nat := rk (4 * x.1.1 + x.2.1)
def xd_Z {n : Nat} (rk : Nat → Nat) (T : Nat → Bool) (x : Fin n × Fin 4) : Prop := xz_Z rk T (4 * x.1.1 + x.2.1)
section
variable {n : Nat} {hd rn so : Int32} {pl mv st ro ma it wo tu : Nat → Int32} {rk me : Nat → Nat} {T : Nat → Bool}
theorem xd_lt (x : Fin n × Fin 4) : 4 * x.1.1 + x.2.1 < 4 * n := by
  have h1 := x.1.2
  have h2 := x.2.2
  omega
theorem xd_st (hme : ∀ y, y < 4 * n → me y < 4) (x : Fin n × Fin 4) : xa_st (fo_F n pl mv 0) (xd_de me) (xd_Z rk T) x ↔ xz_S n pl mv rk me T (4 * x.1.1 + x.2.1) := by
  have h2 := x.2.2
  have hv : (4 * x.1.1 + x.2.1) / 4 = x.1.1 := by omega
  have hm : me (4 * x.1.1 + x.2.1) % 4 = me (4 * x.1.1 + x.2.1) := Nat.mod_eq_of_lt (hme _ (xd_lt x))
  have hS : (fun w : Fin n => xd_Z rk T (w, xd_de me x.1 x.2)) = fun w => xz_Z rk T (4 * w.1 + me (4 * x.1.1 + x.2.1)) := by
    funext w
    show xz_Z rk T (4 * w.1 + me (4 * x.1.1 + x.2.1) % 4) = _
    rw [hm]
  have hlt : (4 * x.1.1 + x.2.1) / 4 < n := by
    rw [hv]
    exact x.1.2
  have hF : (⟨(4 * x.1.1 + x.2.1) / 4, hlt⟩ : Fin n) = x.1 := Fin.ext hv
  constructor
  · intro h
    refine ⟨hlt, ?_⟩
    rw [hF, ← hS]
    exact h
  · intro ⟨_, h⟩
    rw [hF, ← hS] at h
    exact h
theorem xz_1t {r y : Nat} (h : T y = true) : xz_1 n pl mv rk me T r y = true := by
  unfold xz_1
  rw [if_neg (fun z => by rw [h] at z; exact absurd z.2 (by decide))]
  exact h
theorem xz_1f {r y : Nat} (hr : rk y = r) (h : T y = false) : xz_1 n pl mv rk me T r y = true ↔ (xz_S n pl mv rk me T y ↔ pg_odd r = true) := by
  unfold xz_1
  rw [if_pos ⟨hr, h⟩]
  exact @decide_eq_true_iff _ (Classical.propDecidable _)
theorem xz_1o {r y : Nat} (hr : ¬ rk y = r) : xz_1 n pl mv rk me T r y = T y := if_neg fun z => hr z.1
theorem xi_next (hme : ∀ y, y < 4 * n → me y < 4) {r : Nat} (hI : pg_Inv (xd_rk (n := n) rk) (xa_st (fo_F n pl mv 0) (xd_de me)) pg_odd r (xd_Z rk T))
    (h : ∀ y, y < 4 * n → rk y = r → T y = false → xz_1 n pl mv rk me T r y = false) : pg_Inv (xd_rk (n := n) rk) (xa_st (fo_F n pl mv 0) (xd_de me)) pg_odd (r + 1) (xd_Z rk T) := by
  refine pg_Inv_next (xa_mono (fo_mono n pl mv 0) _) hI ?_ ?_
  · intro hb x hx hs
    have hx' : rk (4 * x.1.1 + x.2.1) = r := hx
    rw [xd_st hme] at hs
    show (pg_odd (rk (4 * x.1.1 + x.2.1)) ^^ T (4 * x.1.1 + x.2.1)) = false
    rw [hx', hb]
    cases hT : T (4 * x.1.1 + x.2.1) with
    | true => rfl
    | false =>
      have h1 := h _ (xd_lt x) hx' hT
      have h2 := (xz_1f (n := n) (pl := pl) (mv := mv) (me := me) hx' hT).mpr ⟨fun _ => hb, fun _ => hs⟩
      rw [h1] at h2
      exact absurd h2 (by decide)
  · intro hb x hx hz
    have hx' : rk (4 * x.1.1 + x.2.1) = r := hx
    rw [xd_st hme]
    have hz' : (pg_odd (rk (4 * x.1.1 + x.2.1)) ^^ T (4 * x.1.1 + x.2.1)) = false := hz
    rw [hx', hb, Bool.false_xor] at hz'
    refine Classical.byContradiction fun hn => ?_
    have h1 := h _ (xd_lt x) hx' hz'
    have h2 := (xz_1f (n := n) (pl := pl) (mv := mv) (me := me) hx' hz').mpr ⟨fun z => absurd z hn, fun z => by rw [hb] at z; exact absurd z (by decide)⟩
    rw [h1] at h2
    exact absurd h2 (by decide)
theorem xi_turn (hme : ∀ y, y < 4 * n → me y < 4) {r : Nat} (hI : pg_Inv (xd_rk (n := n) rk) (xa_st (fo_F n pl mv 0) (xd_de me)) pg_odd r (xd_Z rk T)) :
    pg_Inv (xd_rk (n := n) rk) (xa_st (fo_F n pl mv 0) (xd_de me)) pg_odd 0 (xd_Z rk (xz_2 n pl mv rk me T r)) := by
  refine pg_Inv_turn (xa_mono (fo_mono n pl mv 0) _) hI ?_ ?_ ?_ ?_
  · intro x hx
    have hx' : r < rk (4 * x.1.1 + x.2.1) := hx
    have e : xz_2 n pl mv rk me T r (4 * x.1.1 + x.2.1) = T (4 * x.1.1 + x.2.1) := by
      unfold xz_2
      rw [if_neg (by omega), xz_1o (by omega)]
    show (pg_odd _ ^^ T _) = false ↔ (pg_odd _ ^^ xz_2 n pl mv rk me T r _) = false
    rw [e]
  · intro x hx
    have hx' : rk (4 * x.1.1 + x.2.1) < r := hx
    have e : xz_2 n pl mv rk me T r (4 * x.1.1 + x.2.1) = false := if_pos hx'
    show (pg_odd (rk (4 * x.1.1 + x.2.1)) ^^ xz_2 n pl mv rk me T r (4 * x.1.1 + x.2.1)) = false ↔ pg_odd (rk (4 * x.1.1 + x.2.1)) = false
    rw [e, Bool.xor_false]
  · intro hb x hx hz
    have hx' : rk (4 * x.1.1 + x.2.1) = r := hx
    have e : xz_2 n pl mv rk me T r (4 * x.1.1 + x.2.1) = xz_1 n pl mv rk me T r (4 * x.1.1 + x.2.1) := if_neg (by omega)
    have hz' : (pg_odd (rk (4 * x.1.1 + x.2.1)) ^^ xz_2 n pl mv rk me T r (4 * x.1.1 + x.2.1)) = false := hz
    rw [e, hx', hb, Bool.true_xor, Bool.not_eq_false'] at hz'
    cases hT : T (4 * x.1.1 + x.2.1) with
    | true =>
      refine Or.inl ?_
      show (pg_odd (rk (4 * x.1.1 + x.2.1)) ^^ T (4 * x.1.1 + x.2.1)) = false
      rw [hx', hb, hT]
      rfl
    | false =>
      refine Or.inr ?_
      rw [xd_st hme]
      exact ((xz_1f hx' hT).mp hz').mpr hb
  · intro hb x hx hz
    have hx' : rk (4 * x.1.1 + x.2.1) = r := hx
    have e : xz_2 n pl mv rk me T r (4 * x.1.1 + x.2.1) = xz_1 n pl mv rk me T r (4 * x.1.1 + x.2.1) := if_neg (by omega)
    have hz' : ¬ (pg_odd (rk (4 * x.1.1 + x.2.1)) ^^ xz_2 n pl mv rk me T r (4 * x.1.1 + x.2.1)) = false := hz
    rw [e, hx', hb, Bool.false_xor, Bool.not_eq_false] at hz'
    cases hT : T (4 * x.1.1 + x.2.1) with
    | true =>
      refine Or.inl fun z => ?_
      have z' : (pg_odd (rk (4 * x.1.1 + x.2.1)) ^^ T (4 * x.1.1 + x.2.1)) = false := z
      rw [hx', hb, hT] at z'
      exact absurd z' (by decide)
    | false =>
      refine Or.inr fun z => ?_
      rw [xd_st hme] at z
      have := ((xz_1f hx' hT).mp hz').mp z
      rw [hb] at this
      exact absurd this (by decide)
theorem xu_turn {r : Nat} (hr : r < 7) (hex : ∃ y, y < 4 * n ∧ rk y = r ∧ T y = false ∧ xz_1 n pl mv rk me T r y = true) :
    xc_Pt (xu_c rk (4 * n)) (xu_U rk (xz_2 n pl mv rk me T r) (4 * n)) 7 < xc_Pt (xu_c rk (4 * n)) (xu_U rk T (4 * n)) 7 := by
  refine xc_Pt_dec (fun s => xu_le rk _ _ s) (r := r) ?_ ?_ 7 hr
  · obtain ⟨y, hy, h1, h2, h3⟩ := hex
    have e : xz_2 n pl mv rk me T r y = true := by
      unfold xz_2
      rw [if_neg (by omega)]
      exact h3
    refine xc_lt (y0 := y) ?_ ?_ (4 * n) ?_ hy
    · rw [h1, h2, beq_self_eq_true]
      rfl
    · rw [e, h1, beq_self_eq_true]
      rfl
    · intro z hz hp
      rw [Bool.and_eq_true] at hp ⊢
      refine ⟨hp.1, ?_⟩
      have hz1 : rk z = r := eq_of_beq hp.1
      cases hT : T z with
      | false => rfl
      | true =>
        have e2 : xz_2 n pl mv rk me T r z = true := by
          unfold xz_2
          rw [if_neg (by omega)]
          exact xz_1t hT
        have := hp.2
        rw [e2] at this
        exact absurd this (by decide)
  · intro s hs
    have e : ∀ z, (rk z == s && !xz_2 n pl mv rk me T r z) = (rk z == s && !T z) := by
      intro z
      by_cases h : rk z = s
      · have e2 : xz_2 n pl mv rk me T r z = T z := by
          unfold xz_2
          rw [if_neg (by omega), xz_1o (by omega)]
        rw [e2]
      · rw [beq_false_of_ne h, Bool.false_and, Bool.false_and]
    show xc_n (fun z => rk z == s && !xz_2 n pl mv rk me T r z) (4 * n) = xc_n (fun z => rk z == s && !T z) (4 * n)
    rw [funext e]
theorem xw_field (hD : ms_D n pl mv) (hA : xz_A n ro ma it rk me T) (hT : ∀ y, T y = false) {post : SX → Prop}
    (hp : ∀ it tu T, xz_A n ro ma it rk me T → pg_Sv (xd_rk (n := n) rk) (xa_st (fo_F n pl mv 0) (xd_de me)) pg_odd 7 (xd_Z rk T) → post (nI n, hd, rn, so, pl, mv, st, ro, ma, it, wo, tu)) :
    wpX_solveField post (nI n, hd, rn, so, pl, mv, st, ro, ma, it, wo, tu) := by
  have hn := hD.1
  have hme : ∀ y, y < 4 * n → me y < 4 := fun y hy => (hA y hy).2.2.2.1
  have hB := xu_bound rk (N := 4 * n) (by omega)
  have key : ∀ f T it tu r c, 8 * xc_Pt (xu_c rk (4 * n)) (xu_U rk T (4 * n)) 7 + (7 - r) < f → c + (8 * xc_Pt (xu_c rk (4 * n)) (xu_U rk T (4 * n)) 7 + (7 - r)) ≤ 8000007 → r ≤ 7 →
      pg_Inv (xd_rk (n := n) rk) (xa_st (fo_F n pl mv 0) (xd_de me)) pg_odd r (xd_Z rk T) → xz_A n ro ma it rk me T →
      wX_solveField_4 post f (nI r) (nI c) (nI n) hd rn so pl mv st ro ma it wo tu := by
    intro f
    induction f with
    | zero =>
      intro T it tu r c hf
      exact absurd hf (by omega)
    | succ f ih =>
      intro T it tu r c hf hc hr hI hA
      refine br_f (nI_ge (b := 100000000) (by omega) (by decide)) ?_
      rcases Nat.lt_or_ge r 7 with h7 | h7
      · refine br_f (nI_ge (b := 7) h7 (by decide)) (xw_turn hD hA h7 ?_ ?_)
        · intro hno tu
          exact br_t rfl (nm_r (nI_1 r) (nm_r (nI_1 c) (ih T it tu (r + 1) (c + 1) (by omega) (by omega) (by omega) (xi_next hme hI hno) hA)))
        · intro hex it' tu' hit
          have hdec := xu_turn h7 hex
          refine br_f (by decide) (nm_r (nI_1 c) (ih (xz_2 n pl mv rk me T r) it' tu' 0 (c + 1) (by omega) (by omega) (by omega) (xi_turn hme hI) ?_))
          intro y hy
          obtain ⟨a, b, c, d, _⟩ := hA y hy
          exact ⟨a, b, c, d, hit y hy⟩
      · have e : r = 7 := by omega
        subst e
        exact br_t (nI_le (a := 7) (Nat.le_refl 7) (by decide)) (hp it tu T hA hI.1)
  have hlt : xc_Pt (xu_c rk (4 * n)) (xu_U rk T (4 * n)) 7 < xc_Pr (xu_c rk (4 * n)) 7 := xc_Pt_lt (fun s => xu_le rk T (4 * n) s) 7
  refine ⟨8 * xc_Pt (xu_c rk (4 * n)) (xu_U rk T (4 * n)) 7 + 7 + 1, key _ T it tu 0 0 (by omega) (by omega) (by omega) (pg_Inv_0 fun x => ?_) hA⟩
  show (pg_odd (rk (4 * x.1.1 + x.2.1)) ^^ T (4 * x.1.1 + x.2.1)) = false ↔ pg_odd (rk (4 * x.1.1 + x.2.1)) = false
  rw [hT, Bool.xor_false]
end
end
section
/-! each goal: the solved field gives the formula's set -/
theorem xh_bd : ∀ g, g < 9 → ∀ a b c d : Bool, ∀ m, m < 4 → xh_me g a b c d m < 4 ∧ xh_rk g a b c d m < 7 := by decide +kernel
section
variable {n : Nat} {pl mv st : Nat → Int32}
theorem xt_rk (g : Nat) (x : Fin n × Fin 4) : xd_rk (xf_rk st g) x = xh_rk g (bt (st 0) x.1.1) (bt (st 1) x.1.1) (bt (st 2) x.1.1) (bt (st 3) x.1.1) x.2.1 := by
  have h := x.2.2
  have e1 : (4 * x.1.1 + x.2.1) / 4 = x.1.1 := by omega
  have e2 : (4 * x.1.1 + x.2.1) % 4 = x.2.1 := by omega
  unfold xd_rk xf_rk
  rw [e1, e2]
theorem xt_me (g : Nat) (v : Fin n) (m : Fin 4) : (xd_de (xf_me st g) v m).1 = xh_me g (bt (st 0) v.1) (bt (st 1) v.1) (bt (st 2) v.1) (bt (st 3) v.1) m.1 % 4 := by
  have h := m.2
  have e1 : (4 * v.1 + m.1) / 4 = v.1 := by omega
  have e2 : (4 * v.1 + m.1) % 4 = m.1 := by omega
  show xf_me st g (4 * v.1 + m.1) % 4 = _
  unfold xf_me
  rw [e1, e2]
theorem xg_pr (x y : Int32) (l : Bool) (v : Fin n) : pr_2 (ms_S n x) (ms_S n y) l v = (cond l (bt y v.1) (bt x v.1) = true) := by cases l <;> rfl
theorem xg_0c : ∀ (a b c d : Bool) (m : Fin 4),
    (m.1 = 0 → a = true → xh_me 0 a b c d m.1 % 4 = 1 ∧ xh_rk 0 a b c d m.1 = 2) ∧ (m.1 = 0 → ¬ a = true → xh_me 0 a b c d m.1 % 4 = 0 ∧ xh_rk 0 a b c d m.1 = 1)
    ∧ (m.1 = 1 → xh_me 0 a b c d m.1 % 4 = 1 ∧ xh_rk 0 a b c d m.1 = 2) ∧ (2 ≤ m.1 → 2 ≤ xh_me 0 a b c d m.1 % 4 ∧ xh_rk 0 a b c d m.1 = 1) := by decide +kernel
theorem xg_8c : ∀ (a b c d : Bool) (m : Fin 4),
    (m.1 = 0 → b = true → xh_me 8 a b c d m.1 % 4 = 1 ∧ xh_rk 8 a b c d m.1 = 2) ∧ (m.1 = 0 → ¬ b = true → a = true → xh_me 8 a b c d m.1 % 4 = 0 ∧ xh_rk 8 a b c d m.1 = 1)
    ∧ (m.1 = 0 → ¬ b = true → ¬ a = true → 2 ≤ xh_me 8 a b c d m.1 % 4 ∧ xh_rk 8 a b c d m.1 = 1)
    ∧ (m.1 = 1 → xh_me 8 a b c d m.1 % 4 = 1 ∧ xh_rk 8 a b c d m.1 = 2) ∧ (2 ≤ m.1 → 2 ≤ xh_me 8 a b c d m.1 % 4 ∧ xh_rk 8 a b c d m.1 = 1) := by
  intro a b c d m
  refine ⟨?_, ?_, ?_, ?_, ?_⟩ <;> (revert a b c d m; decide +kernel)
theorem xg_1c : ∀ (a b c d : Bool) (m : Fin 4),
    (m.1 = 0 → a = true → xh_me 1 a b c d m.1 % 4 = 0 ∧ xh_rk 1 a b c d m.1 = 2) ∧ (m.1 = 0 → ¬ a = true → 1 ≤ xh_me 1 a b c d m.1 % 4 ∧ xh_rk 1 a b c d m.1 = 1)
    ∧ (1 ≤ m.1 → 1 ≤ xh_me 1 a b c d m.1 % 4 ∧ xh_rk 1 a b c d m.1 = 1) := by decide +kernel
theorem xg_2c : ∀ (a b c d : Bool) (m : Fin 4), (a = true → xh_rk 2 a b c d m.1 = 2) ∧ (¬ a = true → xh_rk 2 a b c d m.1 = 1) := by decide +kernel
theorem xg_3c : ∀ (a b c d : Bool) (m : Fin 4), (a = true → xh_rk 3 a b c d m.1 = 0) ∧ (¬ a = true → xh_rk 3 a b c d m.1 = 1) := by decide +kernel
theorem xg_4c : ∀ (a b c d : Bool) (m : Fin 4), (xh_me 4 a b c d m.1 % 4 % 2 = 1 ↔ ¬ ((m.1 % 2 = 1 ∨ a = true) ∧ b = true) ∧ (m.1 % 2 = 1 ∨ a = true))
    ∧ (((m.1 % 2 = 1 ∨ a = true) ∧ b = true) → xh_rk 4 a b c d m.1 = 2) ∧ (¬ ((m.1 % 2 = 1 ∨ a = true) ∧ b = true) → xh_rk 4 a b c d m.1 = 1) := by decide +kernel
theorem xg_5c : ∀ (a b c d : Bool) (m : Fin 4), (xh_me 5 a b c d m.1 % 4 % 2 = 1 ↔ ¬ ((m.1 % 2 = 1 ∨ a = true) ∧ b = true) ∧ (m.1 % 2 = 1 ∨ a = true))
    ∧ (xh_me 5 a b c d m.1 % 4 / 2 = 1 ↔ ¬ ((m.1 / 2 = 1 ∨ c = true) ∧ d = true) ∧ (m.1 / 2 = 1 ∨ c = true)) := by decide +kernel
theorem xg_5r : ∀ (a b c d : Bool) (m : Fin 4), (((m.1 / 2 = 1 ∨ c = true) ∧ d = true) → xh_rk 5 a b c d m.1 = 2)
    ∧ (¬ ((m.1 / 2 = 1 ∨ c = true) ∧ d = true) → ((m.1 % 2 = 1 ∨ a = true) ∧ b = true) → xh_rk 5 a b c d m.1 = 1)
    ∧ (¬ ((m.1 / 2 = 1 ∨ c = true) ∧ d = true) → ¬ ((m.1 % 2 = 1 ∨ a = true) ∧ b = true) → xh_rk 5 a b c d m.1 = 0) := by
  intro a b c d m
  refine ⟨?_, ?_, ?_⟩ <;> (revert a b c d m; decide +kernel)
theorem xg_pm : ∀ r0 r1 l : Bool, (cond l r1 r0 = true ∧ ¬ cond (!l) r1 r0 = true ∧ xp_m r0 r1 l = !l) ∨ (¬ (cond l r1 r0 = true ∧ ¬ cond (!l) r1 r0 = true) ∧ xp_m r0 r1 l = l) := by decide +kernel
theorem xg_pk : ∀ r0 r1 g0 g1 l : Bool, (cond l r1 r0 = true ∧ xp_r r0 r1 g0 g1 l = 5) ∨ (¬ cond l r1 r0 = true ∧ cond l g1 g0 = true ∧ xp_r r0 r1 g0 g1 l = 4)
    ∨ (¬ cond l r1 r0 = true ∧ ¬ cond l g1 g0 = true ∧ cond (!l) r1 r0 = true ∧ xp_r r0 r1 g0 g1 l = 3)
    ∨ (¬ cond l r1 r0 = true ∧ ¬ cond l g1 g0 = true ∧ ¬ cond (!l) r1 r0 = true ∧ cond (!l) g1 g0 = true ∧ xp_r r0 r1 g0 g1 l = 2)
    ∨ (¬ cond l r1 r0 = true ∧ ¬ cond l g1 g0 = true ∧ ¬ cond (!l) r1 r0 = true ∧ ¬ cond (!l) g1 g0 = true ∧ xp_r r0 r1 g0 g1 l = 1) := by decide +kernel
theorem xg_tn (b : Bool) : (b.toNat % 4 % 2 == 1) = b := by cases b <;> rfl
theorem xg_odd (k : Nat) : (!pg_odd (k + 1)) = pg_odd k := by
  unfold pg_odd
  rcases Nat.mod_two_eq_zero_or_one k with h | h
  · rw [h, show (k + 1) % 2 = 1 by omega]
    rfl
  · rw [h, show (k + 1) % 2 = 0 by omega]
    rfl
theorem xg_all (hD : ms_D n pl mv) {g : Nat} (hg : g < 9) {Z : Fin n × Fin 4 → Prop} (hS : pg_Sv (xd_rk (n := n) (xf_rk st g)) (xa_st (fo_F n pl mv 0) (xd_de (xf_me st g))) pg_odd 7 Z) (v : Fin n) :
    Z (v, 0) ↔ so_Sol n pl mv st g v := by
  have hl := List.mem_finRange (n := n)
  have hF := fo_mono n pl mv 0
  match g, hg, hS with
  | 0, _, hS =>
    refine un_main hF hl (b := ms_S n (st 0)) (a := fun _ => True) (op := fun m : Fin 4 => m.1 = 0) (dn := fun m => m.1 = 1) (ls := fun m => 2 ≤ m.1) ?_ hS v 0 rfl
    refine ⟨fun v m h1 h2 => ?_, fun v m h1 h2 _ => ?_, fun v m h1 h2 h3 => absurd trivial h3, fun v m h1 => ?_, fun v m h1 => ?_⟩
    · dsimp only
      rw [xt_rk, xt_me]
      exact (xg_0c _ _ _ _ m).1 h1 h2
    · dsimp only
      rw [xt_rk, xt_me]
      exact (xg_0c _ _ _ _ m).2.1 h1 h2
    · dsimp only
      rw [xt_rk, xt_me]
      exact (xg_0c _ _ _ _ m).2.2.1 h1
    · dsimp only
      rw [xt_rk, xt_me]
      exact (xg_0c _ _ _ _ m).2.2.2 h1
  | 8, _, hS =>
    refine un_main hF hl (b := ms_S n (st 1)) (a := ms_S n (st 0)) (op := fun m : Fin 4 => m.1 = 0) (dn := fun m => m.1 = 1) (ls := fun m => 2 ≤ m.1) ?_ hS v 0 rfl
    refine ⟨fun v m h1 h2 => ?_, fun v m h1 h2 h3 => ?_, fun v m h1 h2 h3 => ?_, fun v m h1 => ?_, fun v m h1 => ?_⟩
    · dsimp only
      rw [xt_rk, xt_me]
      exact (xg_8c _ _ _ _ m).1 h1 h2
    · dsimp only
      rw [xt_rk, xt_me]
      exact (xg_8c _ _ _ _ m).2.1 h1 h2 h3
    · dsimp only
      rw [xt_rk, xt_me]
      exact (xg_8c _ _ _ _ m).2.2.1 h1 h2 h3
    · dsimp only
      rw [xt_rk, xt_me]
      exact (xg_8c _ _ _ _ m).2.2.2.1 h1
    · dsimp only
      rw [xt_rk, xt_me]
      exact (xg_8c _ _ _ _ m).2.2.2.2 h1
  | 1, _, hS =>
    refine sy_main hF hl (a := ms_S n (st 0)) (op := fun m : Fin 4 => m.1 = 0) (ls := fun m => 1 ≤ m.1) ?_ hS v 0 rfl
    refine ⟨fun v m h1 h2 => ?_, fun v m h1 h2 => ?_, fun v m h1 => ?_⟩
    · dsimp only
      rw [xt_rk, xt_me]
      exact (xg_1c _ _ _ _ m).1 h1 h2
    · dsimp only
      rw [xt_rk, xt_me]
      exact (xg_1c _ _ _ _ m).2.1 h1 h2
    · dsimp only
      rw [xt_rk, xt_me]
      exact (xg_1c _ _ _ _ m).2.2 h1
  | 2, _, hS =>
    refine gr_main hF hl (A := fun _ _ => True) (s := fun _ => ms_S n (st 0)) (low := fun _ => False) (high := fun _ => False) ?_ ?_ ?_ hS v 0
    · exact fun v m => ⟨fun z => z.elim, fun z => z.1 ⟨Or.inr trivial, trivial⟩⟩
    · exact fun v m => ⟨fun z => z.elim, fun z => z.2.elim (fun y => y) (fun y => z.1 ⟨Or.inr y, y⟩)⟩
    · intro v m
      rw [xt_rk]
      refine ⟨fun h => (xg_2c _ _ _ _ m).1 h.2, fun h _ => (xg_2c _ _ _ _ m).2 fun y => h ⟨Or.inr y, y⟩, fun _ h => absurd ⟨Or.inr trivial, trivial⟩ h⟩
  | 3, _, hS =>
    refine gr_main hF hl (A := fun _ v => ¬ ms_S n (st 0) v) (s := fun _ _ => False) (low := fun _ => False) (high := fun _ => False) ?_ ?_ ?_ hS v 0
    · exact fun v m => ⟨fun z => z.elim, fun z => z.2.elim (fun y => y) (fun y => z.1 ⟨Or.inr y, y⟩)⟩
    · exact fun v m => ⟨fun z => z.elim, fun z => z.2.elim (fun y => y) (fun y => y)⟩
    · intro v m
      rw [xt_rk]
      refine ⟨fun h => h.2.elim, fun _ h => (xg_3c _ _ _ _ m).2 h.2, fun _ h => (xg_3c _ _ _ _ m).1 (Classical.byContradiction fun y => h ⟨Or.inr y, y⟩)⟩
  | 4, _, hS =>
    refine gr_main hF hl (A := fun _ _ => True) (s := pr_2 (ms_S n (st 0)) (ms_S n (st 1))) (low := fun _ => False) (high := fun m : Fin 4 => m.1 % 2 = 1) ?_ ?_ ?_ hS v 0
    · exact fun v m => ⟨fun z => z.elim, fun z => z.1 ⟨Or.inr trivial, trivial⟩⟩
    · intro v m
      dsimp only
      rw [xt_me]
      exact (xg_4c _ _ _ _ m).1
    · intro v m
      rw [xt_rk]
      exact ⟨fun h => (xg_4c _ _ _ _ m).2.1 h, fun h _ => (xg_4c _ _ _ _ m).2.2 h, fun _ h => absurd ⟨Or.inr trivial, trivial⟩ h⟩
  | 5, _, hS =>
    refine gr_main hF hl (A := pr_2 (ms_S n (st 0)) (ms_S n (st 1))) (s := pr_2 (ms_S n (st 2)) (ms_S n (st 3))) (low := fun m : Fin 4 => m.1 % 2 = 1) (high := fun m : Fin 4 => m.1 / 2 = 1) ?_ ?_ ?_ hS v 0
    · intro v m
      dsimp only
      rw [xt_me]
      exact (xg_5c _ _ _ _ m).1
    · intro v m
      dsimp only
      rw [xt_me]
      exact (xg_5c _ _ _ _ m).2
    · intro v m
      rw [xt_rk]
      exact xg_5r _ _ _ _ m
  | 6, _, hS =>
    refine rb_main hF hl (G := pr_2 (ms_S n (st 1)) (ms_S n (st 3))) (R := pr_2 (ms_S n (st 0)) (ms_S n (st 2))) (lst := fun m : Fin 4 => m.1 % 2 == 1) (e := 0) (by decide) (fun k => rfl) ?_ ?_ hS v 0
    · intro v m
      rw [xt_me]
      unfold rb_MM
      rw [xg_pr, xg_pr, show xh_me 6 (bt (st 0) v.1) (bt (st 1) v.1) (bt (st 2) v.1) (bt (st 3) v.1) m.1 = (xp_m (bt (st 0) v.1) (bt (st 2) v.1) (m.1 % 2 == 1)).toNat from rfl, xg_tn]
      exact xg_pm _ _ _
    · intro v m
      refine ⟨xp_r (bt (st 0) v.1) (bt (st 2) v.1) (bt (st 1) v.1) (bt (st 3) v.1) (m.1 % 2 == 1), ?_, by rw [xt_rk]; rfl⟩
      unfold rb_RK
      rw [xg_pr, xg_pr, xg_pr, xg_pr]
      exact xg_pk _ _ _ _ _
  | 7, _, hS =>
    have hS2 := pg_Sv_dual hS
    rw [xa_dual, fo_dual hD] at hS2
    have h := rb_main (fo_mono n pl mv 1) hl (G := pr_2 (ms_S n (st 0)) (ms_S n (st 2))) (R := pr_2 (ms_S n (st 1)) (ms_S n (st 3))) (lst := fun m : Fin 4 => m.1 % 2 == 1) (e := 1) (by decide) (fun k => xg_odd k) (by
      intro v m
      rw [xt_me]
      unfold rb_MM
      rw [xg_pr, xg_pr, show xh_me 7 (bt (st 0) v.1) (bt (st 1) v.1) (bt (st 2) v.1) (bt (st 3) v.1) m.1 = (xp_m (bt (st 1) v.1) (bt (st 3) v.1) (m.1 % 2 == 1)).toNat from rfl, xg_tn]
      exact xg_pm _ _ _) (by
      intro v m
      refine ⟨xp_r (bt (st 1) v.1) (bt (st 3) v.1) (bt (st 0) v.1) (bt (st 2) v.1) (m.1 % 2 == 1), ?_, by rw [xt_rk]; rfl⟩
      unfold rb_RK
      rw [xg_pr, xg_pr, xg_pr, xg_pr]
      exact xg_pk _ _ _ _ _) hS2 v 0
    show Z (v, 0) ↔ ¬ rb_X0 _ _ _ v
    rw [← h]
    exact Classical.not_not.symm
end
end
section
/-! the component: solve -/
section
variable {n : Nat} {hd rn so : Int32} {pl mv st ro ma it wo tu : Nat → Int32}
theorem xw_won (hD : ms_D n pl mv) {g : Nat} (hg : g < 9) {rk me : Nat → Nat} {T : Nat → Bool} (hA : xz_A n ro ma it rk me T) (hZ : ∀ v : Fin n, xz_Z rk T (4 * v.1) ↔ so_Sol n pl mv st g v)
    {post : SX → Prop} {J : Int32 → Int32 → Int32 → Int32 → Int32 → (Nat → Int32) → (Nat → Int32) → (Nat → Int32) → (Nat → Int32) → (Nat → Int32) → (Nat → Int32) → (Nat → Int32) → (Nat → Int32) → Prop}
    (hJ : ∀ wo', ms_M n (wo' g) (so_Sol n pl mv st g) → (∀ k, k ≠ g → wo' k = wo k) → J (nI (g + 1)) (nI n) hd rn so pl mv st ro ma it wo' tu) :
    ∀ d j wo', j + d = n → ms_N (wo' g) (fun i => i < j ∧ ∃ h : i < n, so_Sol n pl mv st g ⟨i, h⟩) → (∀ k, k ≠ g → wo' k = wo k) → wX_solve_34 post J (nI g) (nI n) hd rn so (d + 1) (nI j) pl mv st ro ma it wo' tu := by
  have hn := hD.1
  intro d
  induction d with
  | zero =>
    intro j wo' hj hw hk
    refine br_t (nI_le (by omega) (by omega)) (nm_r (nI_1 g) (hJ wo' (fun i => (hw i).trans ⟨fun z => z.2, fun z => ⟨by obtain ⟨h, _⟩ := z; omega, z⟩⟩) hk))
  | succ d ih =>
    intro j wo' hj hw hk
    have hjn : j < n := by omega
    refine br_f (nI_ge hjn (by omega)) ?_
    have e4 : (4 : Int32) * nI j = nI (4 * j) := pk_mul 4 j
    rw [e4]
    have hin : vp_in (nI g) 9 := vp_in_nI hg (by decide)
    have hcl : (nI g).toNatClampNeg = g := nI_clamp (by omega)
    refine xw_seems hn hA (by omega) ?_
    have hz := hZ ⟨j, hjn⟩
    have hz' : (pg_odd (rk (4 * j)) ^^ T (4 * j)) = false ↔ so_Sol n pl mv st g ⟨j, hjn⟩ := hz
    rw [hcl]
    cases hb : (pg_odd (rk (4 * j)) ^^ T (4 * j)) with
    | false =>
      have hs := hz'.mp hb
      refine br_t rfl ⟨hin, hin, nm_e (nm_r (nI_1 j) (ih (j + 1) _ (by omega) ?_ ?_))⟩
      · rw [pk_us]
        refine ms_N_congr (fun i => ?_) (ms_set hw (v := j) (by omega))
        constructor
        · intro z
          rcases z with z | z
          · exact ⟨by omega, z.2⟩
          · subst z
            exact ⟨by omega, hjn, hs⟩
        · intro z
          by_cases hij : i = j
          · exact Or.inr hij
          · exact Or.inl ⟨by omega, z.2⟩
      · intro k hkg
        rw [pk_un hkg]
        exact hk k hkg
    | true =>
      have hs : ¬ so_Sol n pl mv st g ⟨j, hjn⟩ := fun z => by
        have := hz'.mpr z
        rw [hb] at this
        exact absurd this (by decide)
      refine br_f (by decide) ⟨hin, hin, nm_e (nm_r (nI_1 j) (ih (j + 1) _ (by omega) ?_ ?_))⟩
      · rw [pk_us]
        refine ms_N_congr (fun i => ?_) hw
        constructor
        · intro z
          exact ⟨by omega, z.2⟩
        · intro z
          refine ⟨?_, z.2⟩
          have hij : i ≠ j := by
            intro e
            subst e
            obtain ⟨_, h, hf⟩ := z
            exact hs hf
          omega
      · intro k hkg
        rw [pk_un hkg]
        exact hk k hkg
theorem xw_solve (hD : ms_D n pl mv) {post : SX → Prop} (hso : ¬ so = 0 → ∀ g, g < 9 → ms_M n (wo g) (so_Sol n pl mv st g))
    (hp : ∀ hd rn so ro ma it wo tu, (∀ g, g < 9 → ms_M n (wo g) (so_Sol n pl mv st g)) → post (nI n, hd, rn, so, pl, mv, st, ro, ma, it, wo, tu)) :
    wpX_solve post (nI n, hd, rn, so, pl, mv, st, ro, ma, it, wo, tu) := by
  have hn := hD.1
  refine br_c (fun _ => ?_) (fun h => hp _ _ _ _ _ _ _ _ (hso h))
  have key : ∀ d g hd rn ro ma it wo tu, g + d = 9 → (∀ k, k < g → ms_M n (wo k) (so_Sol n pl mv st k)) → wX_solve_10 post (d + 1) (nI g) (nI n) hd rn so pl mv st ro ma it wo tu := by
    intro d
    induction d with
    | zero =>
      intro g hd rn ro ma it wo tu hg hw
      have e : g = 9 := by omega
      subst e
      exact br_t (nI_le (a := 9) (Nat.le_refl 9) (by decide)) (hp _ _ _ _ _ _ _ _ hw)
    | succ d ih =>
      intro g hd rn ro ma it wo tu hg hw
      have hg9 : g < 9 := by omega
      refine br_f (nI_ge (b := 9) hg9 (by decide)) (xw_lay hn hg9 ?_)
      intro hd rn ro ma it hL
      dsimp only
      have hA : xz_A n ro ma it (xf_rk st g) (xf_me st g) (fun _ => false) := by
        intro y hy
        obtain ⟨a, b, c⟩ := hL y hy
        have hb := xh_bd g hg9 (bt (st 0) (y / 4)) (bt (st 1) (y / 4)) (bt (st 2) (y / 4)) (bt (st 3) (y / 4)) (y % 4) (Nat.mod_lt _ (by decide))
        exact ⟨a, hb.2, b, hb.1, c⟩
      refine xw_field hD hA (fun _ => rfl) ?_
      intro it tu T hA2 hS
      dsimp only
      rw [nI_clamp (by omega)]
      refine ⟨vp_in_nI hg9 (by decide), nm_e ⟨n + 1, ?_⟩⟩
      refine xw_won hD hg9 hA2 (fun v => ?_) ?_ n 0 _ (by omega) ?_ (fun k _ => rfl)
      · exact xg_all hD hg9 hS v
      · intro wo' h1 h2
        refine ih (g + 1) _ _ _ _ _ wo' _ (by omega) ?_
        intro k hk
        by_cases e : k = g
        · subst e
          exact h1
        · rw [h2 k e, pk_un e]
          exact hw k (by omega)
      · rw [pk_us]
        intro i
        rw [b_0]
        exact ⟨fun z => absurd z (by decide), fun z => absurd z.1 (by omega)⟩
  exact ⟨9 + 1, key 9 0 _ _ _ _ _ _ _ (by omega) (fun k hk => absurd hk (by omega))⟩
end
end
section
/-! the relation -/
theorem fo_congr {n : Nat} {pl mv e : Nat → Int32} (h : ∀ v, v < n → e v = mv v) (p : Int32) : fo_F n pl e p = fo_F n pl mv p := by
  funext S v
  unfold fo_F
  rw [h v.1 v.2]
theorem so_congr {n : Nat} {pl mv e st st2 : Nat → Int32} (h : ∀ v, v < n → e v = mv v) (h4 : ∀ s, s < 4 → st2 s = st s) (g : Nat) : so_Sol n pl e st2 g = so_Sol n pl mv st g := by
  unfold so_Sol
  rw [fo_congr h 0, fo_congr h 1, h4 0 (by decide), h4 1 (by decide), h4 2 (by decide), h4 3 (by decide)]
def rl_R (n : Nat) (so : Int32) (pl mv st wo e st2 : Nat → Int32) : Prop :=
  ms_D n pl mv ∧ ms_D4 n st ∧ (∀ v, v < n → e v = mv v) ∧ (∀ s, s < 4 → st2 s = st s) ∧ (¬ so = 0 → ∀ g, g < 9 → ms_M n (wo g) (so_Sol n pl mv st g))
/-- the relation at the head of a turn -/
def i_Rel (k : Nat) (u : SX) (v : SY) : Prop := match u, v with
  | (cx, _, _, so, pl, mv, st, _, _, _, wo, _), (cy, _, pl2, e, st2, _, _) => ∃ n, cx = nI n ∧ cy = nI n ∧ pl2 = pl ∧ rl_R n so pl mv st wo e st2
theorem i_up {k : Nat} {u : SX} {v : SY} (h : i_Rel k u v) : i_Rel (k + 3) u v := h
theorem rl_el {P : SX → SY → Prop} (h : ∀ n hd rn so pl mv st ro ma it wo tu ff e st2 gr rd, rl_R n so pl mv st wo e st2 → P (nI n, hd, rn, so, pl, mv, st, ro, ma, it, wo, tu) (nI n, ff, pl, e, st2, gr, rd))
    {k : Nat} {u : SX} {v : SY} (I : i_Rel k u v) : P u v := by
  obtain ⟨cx, hd, rn, so, pl, mv, st, ro, ma, it, wo, tu⟩ := u
  obtain ⟨cy, ff, pl2, e, st2, gr, rd⟩ := v
  obtain ⟨n, e1, e2, e3, hR⟩ := I
  rw [e1, e2, e3]
  exact h n hd rn so pl mv st ro ma it wo tu ff e st2 gr rd hR
theorem rl_in {n : Nat} {hd rn so ff : Int32} {pl mv st ro ma it wo tu e st2 gr rd : Nat → Int32} (h : rl_R n so pl mv st wo e st2) (k : Nat) :
    i_Rel k (nI n, hd, rn, so, pl, mv, st, ro, ma, it, wo, tu) (nI n, ff, pl, e, st2, gr, rd) := ⟨n, rfl, rfl, rfl, h⟩
theorem rl_DY {n : Nat} {so : Int32} {pl mv st wo e st2 : Nat → Int32} (h : rl_R n so pl mv st wo e st2) : ms_D n pl e ∧ ms_D4 n st2 := by
  refine ⟨⟨h.1.1, fun v hv => ⟨(h.1.2 v hv).1, fun i => ?_⟩⟩, fun s hs i => ?_⟩
  · rw [h.2.2.1 v hv]
    exact (h.1.2 v hv).2 i
  · rw [h.2.2.2.1 s hs]
    exact h.2.1 s hs i
theorem i_vc0 : wpX_init (fun u => wpY_init (fun v => i_Rel 0 u v)) := by
  refine ⟨0, rfl, rfl, rfl, ⟨by decide, fun v hv => absurd hv (by omega)⟩, fun s _ i h => ?_, fun v hv => absurd hv (by omega), fun s _ => rfl, fun h => absurd rfl h⟩
  rw [b_0] at h
  exact absurd h (by decide)
section
variable {n : Nat} {hd rn so ff : Int32} {pl mv st ro ma it wo tu e st2 gr rd : Nat → Int32}
theorem xbad_ok {post : Int32 → Prop} (hn : n ≤ 10) {j : Nat} (hj : j < n) (h : post 0) : wpX_badPosition post (nI n, hd, rn, so, pl, mv, st, ro, ma, it, wo, tu) (nI j) := br_f (nI_pos (by omega)) (br_t (nI_lt hj (by omega)) h)
theorem xbad_no {post : Int32 → Prop} {x : Int32} (hx : x < 0 ∨ nI n ≤ x) (h : post 1) : wpX_badPosition post (nI n, hd, rn, so, pl, mv, st, ro, ma, it, wo, tu) x := by
  by_cases h0 : x < 0
  · exact br_t h0 h
  · exact br_f h0 (br_f (Int32.not_lt.mpr (hx.resolve_left h0)) h)
theorem ypos_ok {post : Int32 → Prop} (hn : n ≤ 10) {j : Nat} (hj : j < n) (h : post 1) : wpY_isPosition post (nI n, ff, pl, e, st2, gr, rd) (nI j) := br_f (nI_pos (by omega)) (br_f (nI_ge hj (by omega)) h)
theorem ypos_no {post : Int32 → Prop} {x : Int32} (hx : x < 0 ∨ nI n ≤ x) (h : post 0) : wpY_isPosition post (nI n, ff, pl, e, st2, gr, rd) x := by
  by_cases h0 : x < 0
  · exact br_t h0 h
  · exact br_f h0 (br_t (hx.resolve_left h0) h)
theorem rl_ix (x : Int32) (hn : n ≤ 10) : (x < 0 ∨ nI n ≤ x) ∨ ∃ j, j < n ∧ x = nI j := by
  rcases pk_ix x (n := n) (by omega) with h | h | h
  · exact Or.inl (Or.inl h)
  · exact Or.inl (Or.inr h)
  · exact Or.inr h
end
theorem i_vc_positions {k : Nat} {u : SX} {v : SY} (I : i_Rel k u v) (hk : k + 3 ≤ 1536) : wpX_positions (fun r => wpY_positions (fun r' => r' = r ∧ i_Rel (k + 3) u v) v) u := by
  refine rl_el (P := fun u v => wpX_positions (fun r => wpY_positions (fun r' => r' = r ∧ i_Rel (k + 3) u v) v) u) ?_ I
  intro n hd rn so pl mv st ro ma it wo tu ff e st2 gr rd hR
  exact ⟨rfl, rl_in hR _⟩
theorem i_vc_position {k : Nat} {u : SX} {v : SY} (I : i_Rel k u v) (hk : k + 3 ≤ 1536) (v1 : Int32) : wpX_position (fun r u' => wpY_position (fun r' v' => r' = r ∧ i_Rel (k + 3) u' v') v v1) u v1 := by
  refine rl_el (P := fun u v => wpX_position (fun r u' => wpY_position (fun r' v' => r' = r ∧ i_Rel (k + 3) u' v') v v1) u v1) ?_ I
  intro n hd rn so pl mv st ro ma it wo tu ff e st2 gr rd hR
  have hn := hR.1.1
  have bad : (¬ v1 = 0 ∧ ¬ v1 = 1) → wpY_position (fun r' v' => r' = -1 ∧ i_Rel (k + 3) (nI n, hd, rn, so, pl, mv, st, ro, ma, it, wo, tu) v') (nI n, ff, pl, e, st2, gr, rd) v1 :=
    fun h => br_f h.1 (br_f h.2 ⟨rfl, rl_in hR _⟩)
  by_cases h0 : v1 < 0
  · refine br_t h0 (bad ⟨fun z => ?_, fun z => ?_⟩)
    · rw [z] at h0
      exact absurd h0 (by decide)
    · rw [z] at h0
      exact absurd h0 (by decide)
  · refine br_f h0 ?_
    by_cases h1 : v1 ≤ 1
    · refine br_t h1 ?_
      obtain ⟨p, hp, rfl⟩ := nI_of2 (M := 1) (n := 1) (by decide) h0 h1
      have hp2 : nI p = 0 ∨ nI p = 1 := by
        have : p = 0 ∨ p = 1 := by omega
        rcases this with h | h <;> subst h
        · exact Or.inl rfl
        · exact Or.inr rfl
      have toY : ∀ post, wY_position_11 post (nI p) (nI n) ff pl e st2 gr rd → wpY_position post (nI n, ff, pl, e, st2, gr, rd) (nI p) := by
        intro post h
        rcases hp2 with h2 | h2
        · exact br_t h2 h
        · refine br_f ?_ (br_t h2 h)
          rw [h2]
          decide
      by_cases h10 : n = 10
      · subst h10
        exact br_t rfl (toY _ (br_t rfl ⟨rfl, rl_in hR _⟩))
      · have hne : ¬ nI n = 10 := fun z => h10 ((nI_eq (b := 10) (by omega) (by decide)).mp z)
        have hin : vp_in (nI n) 10 := vp_in_nI (by omega) (by decide)
        have hcl : (nI n).toNatClampNeg = n := nI_clamp (by omega)
        refine br_f hne ⟨hin, ?_⟩
        rw [hcl]
        refine nm_e ⟨hin, nm_e (nm_r (nI_1 n) ?_)⟩
        refine toY _ (br_f hne ⟨hin, ?_⟩)
        rw [hcl]
        refine nm_e ⟨hin, nm_e (nm_r (nI_1 n) ⟨rfl, rl_in ?_ _⟩)⟩
        refine ⟨⟨by omega, fun v hv => ?_⟩, fun s hs i hi => by have := hR.2.1 s hs i hi; omega, fun v hv => ?_, hR.2.2.2.1, fun z => absurd rfl z⟩
        · by_cases hvn : v = n
          · subst hvn
            rw [pk_us, pk_us]
            refine ⟨hp2, fun i hi => ?_⟩
            rw [b_0] at hi
            exact absurd hi (by decide)
          · rw [pk_un hvn, pk_un hvn]
            have := hR.1.2 v (by omega)
            exact ⟨this.1, fun i hi => by have := this.2 i hi; omega⟩
        · by_cases hvn : v = n
          · subst hvn
            rw [pk_us, pk_us]
          · rw [pk_un hvn, pk_un hvn]
            exact hR.2.2.1 v (by omega)
    · refine br_f h1 (bad ⟨fun z => ?_, fun z => ?_⟩)
      · rw [z] at h1
        exact absurd (by decide) h1
      · rw [z] at h1
        exact absurd (by decide) h1
theorem rl_xb {n : Nat} {x : Int32} (h : ∀ i, bt x i = true → i < n) {w : Nat} (hw : w < n) (hn : n ≤ 10) : ∀ i, bt (x ^^^ ((1 : Int32) <<< (nI w &&& 31))) i = true → i < n := by
  intro i hi
  have h32 := ms_lt32 hi
  rw [b_xor, ms_bit (v := w) (by omega) h32] at hi
  by_cases hb : bt x i = true
  · exact h i hb
  · by_cases e : i = w
    · omega
    · rw [decide_eq_false e, Bool.xor_false] at hi
      exact absurd hi hb
theorem i_vc_move {k : Nat} {u : SX} {v : SY} (I : i_Rel k u v) (hk : k + 3 ≤ 1536) (v1 : Int32) (v2 : Int32) : wpX_move (fun r u' => wpY_move (fun r' v' => r' = r ∧ i_Rel (k + 3) u' v') v v1 v2) u v1 v2 := by
  refine rl_el (P := fun u v => wpX_move (fun r u' => wpY_move (fun r' v' => r' = r ∧ i_Rel (k + 3) u' v') v v1 v2) u v1 v2) ?_ I
  intro n hd rn so pl mv st ro ma it wo tu ff e st2 gr rd hR
  have hn := hR.1.1
  unfold wpX_move wpY_move
  dsimp only
  rcases rl_ix v1 hn with h1 | ⟨j, hj, rfl⟩
  · exact xbad_no h1 (br_f (by decide) (ypos_no h1 (br_t rfl ⟨rfl, rl_in hR _⟩)))
  · rcases rl_ix v2 hn with h2 | ⟨w, hw, rfl⟩
    · exact xbad_ok hn hj (br_t rfl (xbad_no h2 (br_f (by decide) (ypos_ok hn hj (br_f (by decide) (ypos_no h2 (br_t rfl ⟨rfl, rl_in hR _⟩)))))))
    · have hin : vp_in (nI j) 10 := vp_in_nI (by omega) (by decide)
      have hcl : (nI j).toNatClampNeg = j := nI_clamp (by omega)
      rw [hcl]
      refine xbad_ok hn hj (br_t rfl (xbad_ok hn hw (br_t rfl ⟨hin, hin, nm_e ⟨hin, ypos_ok hn hj (br_f (by decide) (ypos_ok hn hw (br_f (by decide) ⟨hin, hin, nm_e ⟨hin, ?_⟩⟩)))⟩⟩)))
      rw [pk_us, pk_us, hR.2.2.1 j hj]
      refine ⟨rfl, rl_in ⟨⟨hn, fun v hv => ?_⟩, hR.2.1, fun v hv => ?_, hR.2.2.2.1, fun z => absurd rfl z⟩ _⟩
      · by_cases hvj : v = j
        · subst hvj
          rw [pk_us]
          exact ⟨(hR.1.2 v hv).1, rl_xb (hR.1.2 v hv).2 hw hn⟩
        · rw [pk_un hvj]
          exact hR.1.2 v hv
      · by_cases hvj : v = j
        · subst hvj
          rw [pk_us, pk_us]
        · rw [pk_un hvj, pk_un hvj]
          exact hR.2.2.1 v hv
theorem i_vc_turn {k : Nat} {u : SX} {v : SY} (I : i_Rel k u v) (hk : k + 3 ≤ 1536) (v1 : Int32) : wpX_turn (fun r u' => wpY_turn (fun r' v' => r' = r ∧ i_Rel (k + 3) u' v') v v1) u v1 := by
  refine rl_el (P := fun u v => wpX_turn (fun r u' => wpY_turn (fun r' v' => r' = r ∧ i_Rel (k + 3) u' v') v v1) u v1) ?_ I
  intro n hd rn so pl mv st ro ma it wo tu ff e st2 gr rd hR
  have hn := hR.1.1
  unfold wpX_turn wpY_turn
  dsimp only
  rcases rl_ix v1 hn with h1 | ⟨j, hj, rfl⟩
  · exact xbad_no h1 (br_f (by decide) (ypos_no h1 (br_t rfl ⟨rfl, rl_in hR _⟩)))
  · have hin : vp_in (nI j) 10 := vp_in_nI (by omega) (by decide)
    have hcl : (nI j).toNatClampNeg = j := nI_clamp (by omega)
    rw [hcl]
    refine xbad_ok hn hj (br_t rfl ⟨hin, hin, nm_e ⟨hin, ypos_ok hn hj (br_f (by decide) ⟨hin, hin, nm_e ⟨hin, ?_⟩⟩)⟩⟩)
    refine ⟨rfl, rl_in ⟨⟨hn, fun v hv => ?_⟩, hR.2.1, hR.2.2.1, hR.2.2.2.1, fun z => absurd rfl z⟩ _⟩
    refine ⟨?_, (hR.1.2 v hv).2⟩
    by_cases hvj : v = j
    · subst hvj
      rw [pk_us]
      rcases (hR.1.2 v hv).1 with h | h
      · rw [h]
        exact Or.inr rfl
      · rw [h]
        exact Or.inl rfl
    · rw [pk_un hvj]
      exact (hR.1.2 v hv).1
theorem i_vc_put {k : Nat} {u : SX} {v : SY} (I : i_Rel k u v) (hk : k + 3 ≤ 1536) (v1 : Int32) (v2 : Int32) : wpX_put (fun r u' => wpY_put (fun r' v' => r' = r ∧ i_Rel (k + 3) u' v') v v1 v2) u v1 v2 := by
  refine rl_el (P := fun u v => wpX_put (fun r u' => wpY_put (fun r' v' => r' = r ∧ i_Rel (k + 3) u' v') v v1 v2) u v1 v2) ?_ I
  intro n hd rn so pl mv st ro ma it wo tu ff e st2 gr rd hR
  have hn := hR.1.1
  unfold wpX_put wpY_put
  dsimp only
  rcases rl_ix v2 hn with h2 | ⟨w, hw, rfl⟩
  · refine xbad_no h2 (br_f (by decide) ?_)
    refine br_c (fun _ => ⟨rfl, rl_in hR _⟩) (fun _ => br_c (fun _ => ⟨rfl, rl_in hR _⟩) (fun _ => ypos_no h2 (br_t rfl ⟨rfl, rl_in hR _⟩)))
  · refine xbad_ok hn hw (br_t rfl ?_)
    by_cases h0 : v1 < 0
    · exact br_t h0 (br_t h0 ⟨rfl, rl_in hR _⟩)
    · refine br_f h0 ?_
      by_cases h3 : v1 ≤ 3
      · obtain ⟨s, hs, rfl⟩ := nI_of2 (M := 3) (n := 3) (by decide) h0 h3
        have hin : vp_in (nI s) 4 := vp_in_nI (by omega) (by decide)
        have hcl : (nI s).toNatClampNeg = s := nI_clamp (by omega)
        rw [hcl]
        refine br_t h3 ⟨hin, hin, nm_e ⟨hin, br_f h0 (br_f (Int32.not_lt.mpr h3) (ypos_ok hn hw (br_f (by decide) ⟨hin, hin, nm_e ⟨hin, ?_⟩⟩)))⟩⟩
        rw [pk_us, pk_us, hR.2.2.2.1 s (by omega)]
        refine ⟨rfl, rl_in ⟨hR.1, fun s2 hs2 => ?_, hR.2.2.1, fun s2 hs2 => ?_, fun z => absurd rfl z⟩ _⟩
        · by_cases e : s2 = s
          · subst e
            rw [pk_us]
            exact rl_xb (hR.2.1 s2 hs2) hw hn
          · rw [pk_un e]
            exact hR.2.1 s2 hs2
        · by_cases e : s2 = s
          · subst e
            rw [pk_us, pk_us]
          · rw [pk_un e, pk_un e]
            exact hR.2.2.2.1 s2 hs2
      · have h3' : 3 < v1 := Int32.not_le.mp h3
        exact br_f h3 (br_f h0 (br_t h3' ⟨rfl, rl_in hR _⟩))
end
section
/-! drop -/
section
variable {hd rn so ff : Int32} {pl mv st ro ma it wo tu e st2 gr rd : Nat → Int32}
theorem dr_x2 {m : Nat} {rest : Int32} {post : Int32 → SX → Prop} (hp : ∀ st', (∀ s, s < 4 → st' s = st s &&& rest) → post (nI m) (nI m, hd, rn, 0, pl, mv, st', ro, ma, it, wo, tu)) :
    ∀ d j st', j + d = 4 → (∀ s, s < j → st' s = st s &&& rest) → (∀ s, j ≤ s → st' s = st s) → wX_drop_61 post rest (nI m) hd rn so (d + 1) (nI j) pl mv st' ro ma it wo tu := by
  intro d
  induction d with
  | zero =>
    intro j st' hj h1 _
    exact br_t (nI_le (a := 4) (by omega) (by omega)) (hp st' fun s hs => h1 s (by omega))
  | succ d ih =>
    intro j st' hj h1 h2
    have hin : vp_in (nI j) 4 := vp_in_nI (by omega) (by decide)
    refine br_f (nI_ge (b := 4) (by omega) (by decide)) ⟨hin, hin, ?_⟩
    rw [nI_clamp (by omega)]
    refine nm_e (nm_r (nI_1 j) (ih (j + 1) _ (by omega) (fun s hs => ?_) (fun s hs => ?_)))
    · by_cases hsj : s = j
      · subst hsj
        rw [pk_us, h2 s (Nat.le_refl s)]
      · rw [pk_un hsj]
        exact h1 s (by omega)
    · rw [pk_un (by omega)]
      exact h2 s (by omega)
theorem dr_x1 {m : Nat} (hm : m < 10) {rest : Int32} {post : Int32 → SX → Prop}
    (hp : ∀ mv' st', (∀ v, v < m → mv' v = mv v &&& rest) → (∀ s, s < 4 → st' s = st s &&& rest) → post (nI m) (nI m, hd, rn, 0, pl, mv', st', ro, ma, it, wo, tu)) :
    ∀ d j mv', j + d = m → (∀ v, v < j → mv' v = mv v &&& rest) → (∀ v, j ≤ v → mv' v = mv v) → wX_drop_31 post rest (nI m) hd rn so (d + 1) (nI j) pl mv' st ro ma it wo tu := by
  intro d
  induction d with
  | zero =>
    intro j mv' hj h1 _
    exact br_t (nI_le (by omega) (by omega)) ⟨4 + 1, dr_x2 (fun st' hs => hp mv' st' (fun v hv => h1 v (by omega)) hs) 4 0 st (by omega) (fun s hs => absurd hs (by omega)) (fun s _ => rfl)⟩
  | succ d ih =>
    intro j mv' hj h1 h2
    have hin : vp_in (nI j) 10 := vp_in_nI (by omega) (by decide)
    refine br_f (nI_ge (by omega) (by omega)) ⟨hin, hin, ?_⟩
    rw [nI_clamp (by omega)]
    refine nm_e (nm_r (nI_1 j) (ih (j + 1) _ (by omega) (fun s hs => ?_) (fun s hs => ?_)))
    · by_cases hsj : s = j
      · subst hsj
        rw [pk_us, h2 s (Nat.le_refl s)]
      · rw [pk_un hsj]
        exact h1 s (by omega)
    · rw [pk_un (by omega)]
      exact h2 s (by omega)
theorem dr_y2 {m : Nat} {post : Int32 → SY → Prop} (hp : ∀ st', (∀ s, s < 4 → st' s = st2 s &&& (((1 : Int32) <<< (nI m &&& 31)) ^^^ (-1))) → post (nI m) (nI m, ff, pl, e, st', gr, rd)) :
    ∀ d j st', j + d = 4 → (∀ s, s < j → st' s = st2 s &&& (((1 : Int32) <<< (nI m &&& 31)) ^^^ (-1))) → (∀ s, j ≤ s → st' s = st2 s) → wY_drop_57 post (nI m) ff (d + 1) (nI j) pl e st' gr rd := by
  intro d
  induction d with
  | zero =>
    intro j st' hj h1 _
    exact br_t (nI_le (a := 4) (by omega) (by omega)) (hp st' fun s hs => h1 s (by omega))
  | succ d ih =>
    intro j st' hj h1 h2
    have hin : vp_in (nI j) 4 := vp_in_nI (by omega) (by decide)
    refine br_f (nI_ge (b := 4) (by omega) (by decide)) ⟨hin, hin, ?_⟩
    rw [nI_clamp (by omega)]
    refine nm_e (nm_r (nI_1 j) (ih (j + 1) _ (by omega) (fun s hs => ?_) (fun s hs => ?_)))
    · by_cases hsj : s = j
      · subst hsj
        rw [pk_us, h2 s (Nat.le_refl s)]
      · rw [pk_un hsj]
        exact h1 s (by omega)
    · rw [pk_un (by omega)]
      exact h2 s (by omega)
theorem dr_y1 {m : Nat} {post : Int32 → SY → Prop}
    (hp : ∀ e' st', (∀ v, v < 10 → e' v = e v &&& (((1 : Int32) <<< (nI m &&& 31)) ^^^ (-1))) → (∀ s, s < 4 → st' s = st2 s &&& (((1 : Int32) <<< (nI m &&& 31)) ^^^ (-1))) → post (nI m) (nI m, ff, pl, e', st', gr, rd)) :
    ∀ d j e', j + d = 10 → (∀ v, v < j → e' v = e v &&& (((1 : Int32) <<< (nI m &&& 31)) ^^^ (-1))) → (∀ v, j ≤ v → e' v = e v) → wY_drop_22 post (nI m) ff (d + 1) (nI j) pl e' st2 gr rd := by
  intro d
  induction d with
  | zero =>
    intro j e' hj h1 _
    exact br_t (nI_le (a := 10) (by omega) (by omega)) ⟨4 + 1, dr_y2 (fun st' hs => hp e' st' (fun v hv => h1 v (by omega)) hs) 4 0 st2 (by omega) (fun s hs => absurd hs (by omega)) (fun s _ => rfl)⟩
  | succ d ih =>
    intro j e' hj h1 h2
    have hin : vp_in (nI j) 10 := vp_in_nI (by omega) (by decide)
    refine br_f (nI_ge (b := 10) (by omega) (by omega)) ⟨hin, hin, ?_⟩
    rw [nI_clamp (by omega)]
    refine nm_e (nm_r (nI_1 j) (ih (j + 1) _ (by omega) (fun s hs => ?_) (fun s hs => ?_)))
    · by_cases hsj : s = j
      · subst hsj
        rw [pk_us, h2 s (Nat.le_refl s)]
      · rw [pk_un hsj]
        exact h1 s (by omega)
    · rw [pk_un (by omega)]
      exact h2 s (by omega)
end
theorem dr_eq {m : Nat} (hm : m < 10) {x : Int32} (hx : ∀ i, bt x i = true → i < m + 1) :
    x &&& (((1 : Int32) <<< (nI m &&& 31)) ^^^ (-1)) = x &&& (((1 : Int32) <<< (nI m &&& 31)) - 1) ∧ ∀ i, bt (x &&& (((1 : Int32) <<< (nI m &&& 31)) - 1)) i = true → i < m := by
  constructor
  · apply b_ext
    intro i hi
    rw [b_and, b_and, ms_not _ hi, ms_bit (by omega) hi, ms_allb m (by omega) i hi]
    cases hb : bt x i with
    | false => rfl
    | true =>
      have := hx i hb
      by_cases e : i = m
      · rw [decide_eq_true e, decide_eq_false (show ¬ i < m by omega)]
        rfl
      · rw [decide_eq_false e, decide_eq_true (show i < m by omega)]
        rfl
  · intro i hi
    have h32 := ms_lt32 hi
    rw [b_and, ms_allb m (by omega) i h32, Bool.and_eq_true, decide_eq_true_iff] at hi
    exact hi.2
theorem i_vc_drop {k : Nat} {u : SX} {v : SY} (I : i_Rel k u v) (hk : k + 3 ≤ 1536) : wpX_drop (fun r u' => wpY_drop (fun r' v' => r' = r ∧ i_Rel (k + 3) u' v') v) u := by
  refine rl_el (P := fun u v => wpX_drop (fun r u' => wpY_drop (fun r' v' => r' = r ∧ i_Rel (k + 3) u' v') v) u) ?_ I
  intro n hd rn so pl mv st ro ma it wo tu ff e st2 gr rd hR
  have hn := hR.1.1
  match n, hn, hR with
  | 0, _, hR => exact br_t rfl (br_t rfl ⟨rfl, rl_in hR _⟩)
  | m + 1, hn, hR =>
    refine br_f (nI_ne0 (by omega) (by omega)) (nm_r (nI_pred m) (nm_e ⟨m + 1, ?_⟩))
    refine dr_x1 (by omega) ?_ m 0 mv (by omega) (fun v hv => absurd hv (by omega)) (fun v _ => rfl)
    intro mv' st' h1 h2
    refine br_f (nI_ne0 (by omega) (by omega)) (nm_r (nI_pred m) ⟨10 + 1, ?_⟩)
    refine dr_y1 ?_ 10 0 e (by omega) (fun v hv => absurd hv (by omega)) (fun v _ => rfl)
    intro e' st3 h3 h4
    refine ⟨rfl, rl_in ⟨⟨by omega, fun v hv => ⟨(hR.1.2 v (by omega)).1, ?_⟩⟩, fun s hs => ?_, fun v hv => ?_, fun s hs => ?_, fun z => absurd rfl z⟩ _⟩
    · rw [h1 v hv]
      exact (dr_eq (by omega) (hR.1.2 v (by omega)).2).2
    · rw [h2 s hs]
      exact (dr_eq (by omega) (hR.2.1 s hs)).2
    · rw [h1 v hv, h3 v (by omega), hR.2.2.1 v (by omega)]
      exact (dr_eq (by omega) (hR.1.2 v (by omega)).2).1
    · rw [h2 s hs, h4 s hs, hR.2.2.2.1 s hs]
      exact (dr_eq (by omega) (hR.2.1 s hs)).1
end
section
/-! moves -/
def mo_S0 (n : Nat) (pl mv st : Nat → Int32) : Fin n → Prop := fun v => bt (st 0) v.1 = true ∨ (pl v.1 = 1 ∧ mv v.1 = 0)
def mo_g (n : Nat) (pl mv : Nat → Int32) : (Fin n → Prop) → Fin n → Prop := fun S v => S v ∨ fo_F n pl mv 0 S v
def mo_S (n : Nat) (pl mv st : Nat → Int32) (i : Nat) : Fin n → Prop := fx_it (mo_g n pl mv) (mo_S0 n pl mv st) i
noncomputable def mo_b (n : Nat) (S : Fin n → Prop) (y : Nat) : Bool := @decide (∃ h : y < n, S ⟨y, h⟩) (Classical.propDecidable _)
theorem mo_bt {n : Nat} {S : Fin n → Prop} {y : Nat} : mo_b n S y = true ↔ ∃ h : y < n, S ⟨y, h⟩ := @decide_eq_true_iff _ (Classical.propDecidable _)
theorem mo_stable {n : Nat} {g : (Fin n → Prop) → Fin n → Prop} {S0 : Fin n → Prop} (hg : ∀ S v, S v → g S v) : ∃ K, K ≤ n ∧ g (fx_it g S0 K) = fx_it g S0 K := by
  refine Classical.byContradiction fun hn => ?_
  have key : ∀ k, k ≤ n + 1 → k ≤ xc_n (mo_b n (fx_it g S0 k)) n := by
    intro k
    induction k with
    | zero => exact fun _ => Nat.zero_le _
    | succ k ih =>
      intro hk
      have h1 := ih (by omega)
      have hne : ¬ g (fx_it g S0 k) = fx_it g S0 k := fun z => hn ⟨k, by omega, z⟩
      obtain ⟨v, hv, hnv⟩ : ∃ v, g (fx_it g S0 k) v ∧ ¬ fx_it g S0 k v := by
        refine Classical.byContradiction fun h => hne ?_
        funext v
        exact propext ⟨fun z => Classical.byContradiction fun y => h ⟨v, z, y⟩, hg _ v⟩
      have h2 : xc_n (mo_b n (fx_it g S0 k)) n < xc_n (mo_b n (fx_it g S0 (k + 1))) n := by
        refine xc_lt (y0 := v.1) (mo_bt.mpr ⟨v.2, hv⟩) ?_ n ?_ v.2
        · cases hb : mo_b n (fx_it g S0 k) v.1 with
          | false => rfl
          | true =>
            obtain ⟨_, h⟩ := mo_bt.mp hb
            exact absurd h hnv
        · intro y _ hy
          obtain ⟨h, hs⟩ := mo_bt.mp hy
          exact mo_bt.mpr ⟨h, hg _ _ hs⟩
      omega
  have h1 := key (n + 1) (Nat.le_refl _)
  have h2 := xc_bd (mo_b n (fx_it g S0 (n + 1))) n
  omega
section
variable {n : Nat} {hd rn so ff : Int32} {pl mv st ro ma it wo tu e st2 gr rd : Nat → Int32}
theorem mo_none {v : Fin n} (h : ∀ i, i ≤ n → ¬ mo_S n pl mv st i v) : ∀ i, ¬ mo_S n pl mv st i v := by
  obtain ⟨K, hK, hfix⟩ := mo_stable (g := mo_g n pl mv) (S0 := mo_S0 n pl mv st) (fun S v z => Or.inl z)
  intro i hi
  rcases Nat.lt_or_ge i K with hlt | hge
  · exact h i (by omega) hi
  · have e := fx_it_const hfix (i - K)
    rw [show K + (i - K) = i by omega] at e
    have hi' : fx_it (mo_g n pl mv) (mo_S0 n pl mv st) i v := hi
    rw [e] at hi'
    exact h K hK hi'
theorem mo_forced (hD : ms_D n pl mv) {x : Int32} {S : Fin n → Prop} (hx : ms_M n x S) {post : Int32 → Prop} (hp : ∀ r, ms_M n r (mo_g n pl mv S) → post r) :
    wpX_forcedInto post (nI n, hd, rn, so, pl, mv, st, ro, ma, it, wo, tu) x := by
  have hn := hD.1
  have key : ∀ d j y, j + d = n → ms_N y (fun i => ∃ h : i < n, S ⟨i, h⟩ ∨ (i < j ∧ fo_F n pl mv 0 S ⟨i, h⟩)) → wX_forcedInto_4 post x (nI n) hd rn so pl mv st ro ma it wo tu (d + 1) y (nI j) := by
    intro d
    induction d with
    | zero =>
      intro j y hj hy
      refine br_t (nI_le (by omega) (by omega)) (hp y (fun i => (hy i).trans ⟨fun ⟨h, z⟩ => ⟨h, z.elim Or.inl (fun z => Or.inr z.2)⟩, fun ⟨h, z⟩ => ⟨h, z.elim Or.inl (fun z => Or.inr ⟨by omega, z⟩)⟩⟩))
    | succ d ih =>
      intro j y hj hy
      have hjn : j < n := by omega
      refine br_f (nI_ge hjn (by omega)) ⟨vp_in_nI (by omega) (by decide), ?_⟩
      rw [nI_clamp (by omega)]
      have hno : ¬ fo_F n pl mv 0 S ⟨j, hjn⟩ → wX_forcedInto_58 post (wX_forcedInto_4 post x (nI n) hd rn so pl mv st ro ma it wo tu (d + 1)) x y (nI j) 0 (nI n) hd rn so pl mv st ro ma it wo tu := by
        intro hF
        refine br_t rfl (nm_r (nI_1 j) (ih (j + 1) y (by omega) (ms_N_congr (fun i => ?_) hy)))
        constructor
        · intro ⟨h, z⟩
          exact ⟨h, z.elim Or.inl (fun z => Or.inr ⟨by omega, z.2⟩)⟩
        · intro ⟨h, z⟩
          refine ⟨h, z.elim Or.inl (fun z => Or.inr ⟨?_, z.2⟩)⟩
          have hij : i ≠ j := by
            intro e
            subst e
            exact hF z.2
          omega
      have hyes : fo_F n pl mv 0 S ⟨j, hjn⟩ → wX_forcedInto_58 post (wX_forcedInto_4 post x (nI n) hd rn so pl mv st ro ma it wo tu (d + 1)) x y (nI j) 1 (nI n) hd rn so pl mv st ro ma it wo tu := by
        intro hF
        refine br_f (by decide) (nm_e (nm_r (nI_1 j) (ih (j + 1) _ (by omega) (ms_N_congr (fun i => ?_) (ms_set hy (v := j) (by omega))))))
        constructor
        · intro z
          rcases z with ⟨h, z⟩ | z
          · exact ⟨h, z.elim Or.inl (fun z => Or.inr ⟨by omega, z.2⟩)⟩
          · subst z
            exact ⟨hjn, Or.inr ⟨by omega, hF⟩⟩
        · intro ⟨h, z⟩
          by_cases hij : i = j
          · exact Or.inr hij
          · exact Or.inl ⟨h, z.elim Or.inl (fun z => Or.inr ⟨by omega, z.2⟩)⟩
      by_cases hpl : pl j = 0
      · refine br_t hpl ⟨vp_in_nI (by omega) (by decide), ?_⟩
        by_cases h0 : mv j &&& x = 0
        · refine br_t h0 (hno fun hF => ((fo_own hD hx ⟨j, hjn⟩).mp h0) (hF.1 hpl))
        · refine br_f h0 (hyes ⟨fun _ => Classical.byContradiction fun hn => h0 ((fo_own hD hx ⟨j, hjn⟩).mpr hn), fun z => absurd hpl z⟩)
      · refine br_f hpl ⟨vp_in_nI (by omega) (by decide), ?_⟩
        by_cases h0 : mv j &&& (x ^^^ (-1)) = 0
        · exact br_t h0 (hyes ⟨fun z => absurd z hpl, fun _ => (fo_oth hD hx ⟨j, hjn⟩).mp h0⟩)
        · exact br_f h0 (hno fun hF => h0 ((fo_oth hD hx ⟨j, hjn⟩).mpr (hF.2 hpl)))
  refine ⟨n + 1, key n 0 x (by omega) ?_⟩
  intro i
  rw [hx i]
  exact ⟨fun ⟨h, z⟩ => ⟨h, Or.inl z⟩, fun ⟨h, z⟩ => ⟨h, z.elim (fun z => z) (fun z => absurd z.1 (by omega))⟩⟩
theorem mo_x (hD : ms_D n pl mv) {v : Fin n} {post : Int32 → Prop} : ∀ d j x, ms_M n x (mo_S n pl mv st j) → (∀ i, j ≤ i → i < j + d → ¬ mo_S n pl mv st i v) →
    ((j + d ≤ n ∧ mo_S n pl mv st (j + d) v ∧ post (nI (j + d))) ∨ (j + d = n + 1 ∧ post (-3))) → wX_moves_64 post (nI v.1) (nI n) hd rn so pl mv st ro ma it wo tu (d + 1) x (nI j) := by
  have hn := hD.1
  have hv := v.2
  intro d
  induction d with
  | zero =>
    intro j x hx _ h
    rcases h with ⟨h1, h2, h3⟩ | ⟨h1, h2⟩
    · refine br_f (nI_nlt (by omega) (by omega)) (br_t ?_ h3)
      rw [ms_test1 _ (by omega)]
      exact (ms_at hx v).mpr h2
    · exact br_t (nI_lt (by omega) (by omega)) h2
  | succ d ih =>
    intro j x hx hno h
    have hj : j ≤ n := by
      rcases h with h | h
      · omega
      · omega
    refine br_f (nI_nlt hj (by omega)) (br_f ?_ (mo_forced hD hx fun r hr => nm_r (nI_1 j) (ih (j + 1) r hr (fun i h1 h2 => hno i (by omega) (by omega)) ?_)))
    · rw [ms_test1 _ (by omega)]
      exact fun z => hno j (Nat.le_refl j) (by omega) ((ms_at hx v).mp z)
    · rw [show j + 1 + d = j + (d + 1) by omega]
      exact h
theorem mo_xs (hD : ms_D n pl mv) (h4 : ms_D4 n st) {v : Int32} {post : Int32 → Prop} (hp : ∀ x, ms_M n x (mo_S0 n pl mv st) → ∃ k, wX_moves_64 post v (nI n) hd rn so pl mv st ro ma it wo tu k x 0) :
    ∃ k, wX_moves_19 post v (nI n) hd rn so pl mv st ro ma it wo tu k (st 0) 0 := by
  have hn := hD.1
  have key : ∀ d j x, j + d = n → ms_N x (fun i => bt (st 0) i = true ∨ (i < j ∧ pl i = 1 ∧ mv i = 0)) → wX_moves_19 post v (nI n) hd rn so pl mv st ro ma it wo tu (d + 1) x (nI j) := by
    intro d
    induction d with
    | zero =>
      intro j x hj hx
      refine br_t (nI_le (by omega) (by omega)) (hp x fun i => (hx i).trans ?_)
      constructor
      · intro z
        rcases z with z | z
        · exact ⟨h4 0 (by decide) i z, Or.inl z⟩
        · exact ⟨by omega, Or.inr z.2⟩
      · intro ⟨h, z⟩
        exact z.elim Or.inl (fun z => Or.inr ⟨by omega, z⟩)
    | succ d ih =>
      intro j x hj hx
      have hjn : j < n := by omega
      have hin : vp_in (nI j) 10 := vp_in_nI (by omega) (by decide)
      refine br_f (nI_ge hjn (by omega)) ⟨hin, ?_⟩
      rw [nI_clamp (by omega)]
      have hno : ¬ (pl j = 1 ∧ mv j = 0) → ∀ x3, x3 = nI j + 1 → wX_moves_19 post v (nI n) hd rn so pl mv st ro ma it wo tu (d + 1) x x3 := by
        intro hF
        refine nm_r (nI_1 j) (ih (j + 1) x (by omega) (ms_N_congr (fun i => ?_) hx))
        constructor
        · exact fun z => z.elim Or.inl (fun z => Or.inr ⟨by omega, z.2⟩)
        · refine fun z => z.elim Or.inl (fun z => Or.inr ⟨?_, z.2⟩)
          have hij : i ≠ j := by
            intro e
            subst e
            exact hF z.2
          omega
      by_cases h1 : pl j = 1
      · refine br_t h1 ⟨hin, ?_⟩
        by_cases h0 : mv j = 0
        · refine br_t h0 (nm_e (nm_r (nI_1 j) (ih (j + 1) _ (by omega) (ms_N_congr (fun i => ?_) (ms_set hx (v := j) (by omega))))))
          constructor
          · intro z
            rcases z with z | z
            · exact z.elim Or.inl (fun z => Or.inr ⟨by omega, z.2⟩)
            · subst z
              exact Or.inr ⟨by omega, h1, h0⟩
          · intro z
            by_cases hij : i = j
            · exact Or.inr hij
            · exact Or.inl (z.elim Or.inl (fun z => Or.inr ⟨by omega, z.2⟩))
        · exact br_f h0 (hno fun z => h0 z.2)
      · exact br_f h1 (hno fun z => h1 z.1)
  exact ⟨n + 1, key n 0 (st 0) (by omega) (fun i => ⟨Or.inl, fun z => z.elim (fun z => z) (fun z => absurd z.1 (by omega))⟩)⟩
theorem mo_ys (hD : ms_D n pl e) {post : Int32 → Prop} (hp : ∀ x, ms_M n x (fun v => pl v.1 = 1 ∧ e v.1 = 0) → post x) : wpY_stuck post (nI n, ff, pl, e, st2, gr, rd) := by
  have hn := hD.1
  have key : ∀ d j x, j + d = n → ms_N x (fun i => i < j ∧ pl i = 1 ∧ e i = 0) → wY_stuck_4 post (nI n) ff pl e st2 gr rd (d + 1) x (nI j) := by
    intro d
    induction d with
    | zero =>
      intro j x hj hx
      refine br_t (nI_le (by omega) (by omega)) (hp x fun i => (hx i).trans ?_)
      exact ⟨fun z => ⟨by omega, z.2⟩, fun ⟨h, z⟩ => ⟨by omega, z⟩⟩
    | succ d ih =>
      intro j x hj hx
      have hjn : j < n := by omega
      have hin : vp_in (nI j) 10 := vp_in_nI (by omega) (by decide)
      refine br_f (nI_ge hjn (by omega)) ⟨hin, ?_⟩
      rw [nI_clamp (by omega)]
      have hno : ¬ (pl j = 1 ∧ e j = 0) → ∀ x3, x3 = nI j + 1 → wY_stuck_4 post (nI n) ff pl e st2 gr rd (d + 1) x x3 := by
        intro hF
        refine nm_r (nI_1 j) (ih (j + 1) x (by omega) (ms_N_congr (fun i => ?_) hx))
        constructor
        · exact fun z => ⟨by omega, z.2⟩
        · intro z
          have hij : i ≠ j := by
            intro e
            subst e
            exact hF z.2
          exact ⟨by omega, z.2⟩
      by_cases h1 : pl j = 1
      · refine br_t h1 ⟨hin, ?_⟩
        by_cases h0 : e j = 0
        · refine br_t h0 (nm_e (nm_r (nI_1 j) (ih (j + 1) _ (by omega) (ms_N_congr (fun i => ?_) (ms_set hx (v := j) (by omega))))))
          constructor
          · intro z
            rcases z with z | z
            · exact ⟨by omega, z.2⟩
            · subst z
              exact ⟨by omega, h1, h0⟩
          · intro z
            by_cases hij : i = j
            · exact Or.inr hij
            · exact Or.inl ⟨by omega, z.2⟩
        · exact br_f h0 (hno fun z => h0 z.2)
      · exact br_f h1 (hno fun z => h1 z.1)
  refine ⟨n + 1, key n 0 0 (by omega) (fun i => ?_)⟩
  rw [b_0]
  exact ⟨fun z => absurd z (by decide), fun z => absurd z.1 (by omega)⟩
theorem mo_y (hD : ms_D n pl e) (h4 : ms_D4 n st2) {v : Fin n} {post : Int32 → Prop} : ∀ d j x, (j = 0 ∨ ∃ i, j = i + 1 ∧ ms_M n x (mo_S n pl e st2 i)) → (∀ i, j ≤ i → i < j + d → ¬ mo_S n pl e st2 i v) →
    ((j + d < 12 ∧ mo_S n pl e st2 (j + d) v ∧ post (nI (j + d))) ∨ (j + d = 12 ∧ post (-3))) → wY_moves_14 post (nI v.1) (nI n) ff pl e st2 gr rd (d + 1) x (nI j) := by
  have hn := hD.1
  have hv := v.2
  have h0 := ms_D4_M h4 (s := 0) (by decide)
  have go : ∀ (W : Nat → Int32 → Int32 → Prop) d j x, W = wY_moves_14 post (nI v.1) (nI n) ff pl e st2 gr rd → (j = 0 ∨ ∃ i, j = i + 1 ∧ ms_M n x (mo_S n pl e st2 i)) → j < 12 →
      (∀ z, ms_M n z (mo_S n pl e st2 j) → wY_moves_46 post (W d) (nI v.1) (nI j) z (nI n) ff pl e st2 gr rd) → wY_moves_14 post (nI v.1) (nI n) ff pl e st2 gr rd (d + 1) x (nI j) := by
    intro W d j x hW hx hj hz
    subst hW
    refine br_f (nI_ge (b := 12) hj (by decide)) ?_
    rcases hx with hx | ⟨i, hi, hx⟩
    · subst hx
      exact br_t rfl (mo_ys hD fun r hr => hz _ (ms_or h0 hr))
    · subst hi
      refine br_f (nI_ne0 (by omega) (by omega)) (yw_force hD hx fun r hr => hz _ ?_)
      exact ms_or hx hr
  intro d
  induction d with
  | zero =>
    intro j x hx _ h
    rcases h with ⟨h1, h2, h3⟩ | ⟨h1, h2⟩
    · refine go _ 0 j x rfl hx (by omega) fun z hz => br_t ?_ h3
      rw [ms_test1 _ (by omega)]
      exact (ms_at hz v).mpr h2
    · exact br_t (nI_le (a := 12) (by omega) (by omega)) h2
  | succ d ih =>
    intro j x hx hno h
    have hj : j < 12 := by
      rcases h with h | h
      · omega
      · omega
    refine go _ (d + 1) j x rfl hx hj fun z hz => br_f ?_ (nm_r (nI_1 j) (ih (j + 1) z (Or.inr ⟨j, rfl, hz⟩) (fun i h1 h2 => hno i (by omega) (by omega)) ?_))
    · rw [ms_test1 _ (by omega)]
      exact fun y => hno j (Nat.le_refl j) (by omega) ((ms_at hz v).mp y)
    · rw [show j + 1 + d = j + (d + 1) by omega]
      exact h
end
theorem mo_congr {n : Nat} {pl mv e st st2 : Nat → Int32} (h : ∀ v, v < n → e v = mv v) (h4 : ∀ s, s < 4 → st2 s = st s) (i : Nat) : mo_S n pl e st2 i = mo_S n pl mv st i := by
  have e1 : mo_g n pl e = mo_g n pl mv := by
    unfold mo_g
    rw [fo_congr h 0]
  have e2 : mo_S0 n pl e st2 = mo_S0 n pl mv st := by
    funext v
    unfold mo_S0
    rw [h v.1 v.2, h4 0 (by decide)]
  unfold mo_S
  rw [e1, e2]
theorem i_vc_moves {k : Nat} {u : SX} {v : SY} (I : i_Rel k u v) (hk : k + 3 ≤ 1536) (v1 : Int32) : wpX_moves (fun r => wpY_moves (fun r' => r' = r ∧ i_Rel (k + 3) u v) v v1) u v1 := by
  refine rl_el (P := fun u v => wpX_moves (fun r => wpY_moves (fun r' => r' = r ∧ i_Rel (k + 3) u v) v v1) u v1) ?_ I
  intro n hd rn so pl mv st ro ma it wo tu ff e st2 gr rd hR
  have hn := hR.1.1
  unfold wpX_moves wpY_moves
  dsimp only
  rcases rl_ix v1 hn with h1 | ⟨j, hj, rfl⟩
  · exact xbad_no h1 (br_f (by decide) (ypos_no h1 (br_t rfl ⟨rfl, rl_in hR _⟩)))
  · obtain ⟨hDY, h4Y⟩ := rl_DY hR
    refine xbad_ok hn hj (br_t rfl (nm_e (mo_xs hR.1 hR.2.1 fun x hx => ?_)))
    by_cases hex : ∃ i, i ≤ n ∧ mo_S n pl mv st i ⟨j, hj⟩
    · obtain ⟨i, hi, hs, hmin⟩ : ∃ i, i ≤ n ∧ mo_S n pl mv st i ⟨j, hj⟩ ∧ ∀ i', i' < i → ¬ mo_S n pl mv st i' ⟨j, hj⟩ := by
        obtain ⟨i, hi⟩ := hex
        induction i using Nat.strongRecOn with
        | _ i ih =>
          by_cases hsm : ∃ i', i' < i ∧ mo_S n pl mv st i' ⟨j, hj⟩
          · obtain ⟨i', h1, h2⟩ := hsm
            exact ih i' h1 ⟨by omega, h2⟩
          · exact ⟨i, hi.1, hi.2, fun i' h1 h2 => hsm ⟨i', h1, h2⟩⟩
      refine ⟨i + 1, mo_x hR.1 (v := ⟨j, hj⟩) i 0 x hx (fun i' _ h => hmin i' (by omega)) (Or.inl ⟨by omega, by rw [Nat.zero_add]; exact hs, ?_⟩)⟩
      refine ypos_ok hn hj (br_f (by decide) ⟨i + 1, mo_y hDY h4Y (v := ⟨j, hj⟩) i 0 0 (Or.inl rfl) (fun i' _ h => ?_) (Or.inl ⟨by omega, ?_, ?_⟩)⟩)
      · rw [mo_congr hR.2.2.1 hR.2.2.2.1]
        exact hmin i' (by omega)
      · rw [mo_congr hR.2.2.1 hR.2.2.2.1, Nat.zero_add]
        exact hs
      · exact ⟨rfl, rl_in hR _⟩
    · have hall := mo_none (v := ⟨j, hj⟩) fun i hi hs => hex ⟨i, hi, hs⟩
      refine ⟨n + 1 + 1, mo_x hR.1 (v := ⟨j, hj⟩) (n + 1) 0 x hx (fun i' _ h => hall i') (Or.inr ⟨by omega, ?_⟩)⟩
      refine ypos_ok hn hj (br_f (by decide) ⟨12 + 1, mo_y hDY h4Y (v := ⟨j, hj⟩) 12 0 0 (Or.inl rfl) (fun i' _ h => ?_) (Or.inr ⟨by omega, ?_⟩)⟩)
      · rw [mo_congr hR.2.2.1 hR.2.2.2.1]
        exact hall i'
      · exact ⟨rfl, rl_in hR _⟩
end
section
/-! winning, wins, goodMoves, goals, score -/
section
variable {n : Nat} {hd rn so ff : Int32} {pl mv st ro ma it wo tu e st2 gr rd : Nat → Int32}
theorem wn_ix (x : Int32) : (x < 0 ∨ ((9 : Int32) ≤ x ∧ (8 : Int32) < x)) ∨ ∃ j, j < 9 ∧ x = nI j := by
  rcases pk_ix x (n := 9) (by decide) with h | h | h
  · exact Or.inl (Or.inl h)
  · refine Or.inl (Or.inr ⟨h, ?_⟩)
    rw [Int32.le_iff_toInt_le, nI_toInt (by decide)] at h
    rw [Int32.lt_iff_toInt_lt, show (8 : Int32).toInt = 8 from by decide]
    omega
  · exact Or.inr h
theorem xgoal_ok {post : Int32 → Prop} {j : Nat} (hj : j < 9) (h : post 0) : wpX_badGoal post (nI n, hd, rn, so, pl, mv, st, ro, ma, it, wo, tu) (nI j) := br_f (nI_pos (by omega)) (br_t (nI_lt (b := 9) hj (by decide)) h)
theorem xgoal_no {post : Int32 → Prop} {x : Int32} (hx : x < 0 ∨ ((9 : Int32) ≤ x ∧ (8 : Int32) < x)) (h : post 1) : wpX_badGoal post (nI n, hd, rn, so, pl, mv, st, ro, ma, it, wo, tu) x := by
  by_cases h0 : x < 0
  · exact br_t h0 h
  · exact br_f h0 (br_f (Int32.not_lt.mpr (hx.resolve_left h0).1) h)
theorem ygoal_ok {post : Int32 → Prop} {j : Nat} (hj : j < 9) (h : post 1) : wpY_isGoal post (nI n, ff, pl, e, st2, gr, rd) (nI j) := br_f (nI_pos (by omega)) (br_f (nI_nlt (a := 8) (by omega) (by decide)) h)
theorem ygoal_no {post : Int32 → Prop} {x : Int32} (hx : x < 0 ∨ ((9 : Int32) ≤ x ∧ (8 : Int32) < x)) (h : post 0) : wpY_isGoal post (nI n, ff, pl, e, st2, gr, rd) x := by
  by_cases h0 : x < 0
  · exact br_t h0 h
  · exact br_f h0 (br_t (hx.resolve_left h0).2 h)
theorem rl_wo (hR : rl_R n so pl mv st wo e st2) {so' : Int32} {wo' : Nat → Int32} (hw : ∀ g, g < 9 → ms_M n (wo' g) (so_Sol n pl mv st g)) : rl_R n so' pl mv st wo' e st2 := ⟨hR.1, hR.2.1, hR.2.2.1, hR.2.2.2.1, fun _ => hw⟩
/-- the reference's solve, at the component's set -/
theorem rl_ys (hR : rl_R n so pl mv st wo e st2) {g : Nat} (hg : g < 9) {post : Int32 → SY → Prop} (hp : ∀ r ff gr rd, ms_M n r (so_Sol n pl mv st g) → post r (nI n, ff, pl, e, st2, gr, rd)) :
    wpY_solve post (nI n, ff, pl, e, st2, gr, rd) (nI g) := by
  obtain ⟨hDY, h4Y⟩ := rl_DY hR
  refine yw_solve hDY h4Y hg fun r ff gr rd hr => hp r ff gr rd ?_
  rw [so_congr hR.2.2.1 hR.2.2.2.1] at hr
  exact hr
end
theorem i_vc_winning {k : Nat} {u : SX} {v : SY} (I : i_Rel k u v) (hk : k + 3 ≤ 1536) (v1 : Int32) : wpX_winning (fun r u' => wpY_winning (fun r' v' => r' = r ∧ i_Rel (k + 3) u' v') v v1) u v1 := by
  refine rl_el (P := fun u v => wpX_winning (fun r u' => wpY_winning (fun r' v' => r' = r ∧ i_Rel (k + 3) u' v') v v1) u v1) ?_ I
  intro n hd rn so pl mv st ro ma it wo tu ff e st2 gr rd hR
  unfold wpX_winning wpY_winning
  dsimp only
  rcases wn_ix v1 with h1 | ⟨g, hg, rfl⟩
  · exact xgoal_no h1 (br_f (by decide) (ygoal_no h1 (br_t rfl ⟨rfl, rl_in hR _⟩)))
  · refine xgoal_ok hg (br_t rfl (xw_solve hR.1 hR.2.2.2.2 fun hd rn so ro ma it wo tu hw => ?_))
    dsimp only
    rw [nI_clamp (by omega)]
    refine ⟨vp_in_nI hg (by decide), ygoal_ok hg (br_f (by decide) (rl_ys hR hg fun r ff gr rd hr => ?_))⟩
    dsimp only
    exact ⟨ms_ext hr (hw g hg), rl_in (rl_wo hR hw) _⟩
theorem i_vc_wins {k : Nat} {u : SX} {v : SY} (I : i_Rel k u v) (hk : k + 3 ≤ 1536) (v1 : Int32) (v2 : Int32) : wpX_wins (fun r u' => wpY_wins (fun r' v' => r' = r ∧ i_Rel (k + 3) u' v') v v1 v2) u v1 v2 := by
  refine rl_el (P := fun u v => wpX_wins (fun r u' => wpY_wins (fun r' v' => r' = r ∧ i_Rel (k + 3) u' v') v v1 v2) u v1 v2) ?_ I
  intro n hd rn so pl mv st ro ma it wo tu ff e st2 gr rd hR
  have hn := hR.1.1
  unfold wpX_wins wpY_wins
  dsimp only
  rcases wn_ix v1 with h1 | ⟨g, hg, rfl⟩
  · exact xgoal_no h1 (br_f (by decide) (ygoal_no h1 (br_t rfl ⟨rfl, rl_in hR _⟩)))
  · rcases rl_ix v2 hn with h2 | ⟨j, hj, rfl⟩
    · exact xgoal_ok hg (br_t rfl (xbad_no h2 (br_f (by decide) (ygoal_ok hg (br_f (by decide) (ypos_no h2 (br_t rfl ⟨rfl, rl_in hR _⟩)))))))
    · refine xgoal_ok hg (br_t rfl (xbad_ok hn hj (br_t rfl (xw_solve hR.1 hR.2.2.2.2 fun hd rn so ro ma it wo tu hw => ?_))))
      dsimp only
      rw [nI_clamp (by omega)]
      refine ⟨vp_in_nI hg (by decide), ?_⟩
      have toY : ∀ (c : Int32) , (((wo g >>> (nI j &&& 31)) &&& 1 = 1 ∧ c = 1) ∨ (¬ (wo g >>> (nI j &&& 31)) &&& 1 = 1 ∧ c = 0)) →
          wpY_isGoal (fun r_1 => ((r_1 = 0 → (0 : Int32) = c ∧ i_Rel (k + 3) (nI n, hd, rn, so, pl, mv, st, ro, ma, it, wo, tu) (nI n, ff, pl, e, st2, gr, rd)) ∧ (¬ r_1 = 0 → wpY_isPosition (fun r_10 => ((r_10 = 0 → (0 : Int32) = c ∧ i_Rel (k + 3) (nI n, hd, rn, so, pl, mv, st, ro, ma, it, wo, tu) (nI n, ff, pl, e, st2, gr, rd)) ∧ (¬ r_10 = 0 → wpY_solve (fun r_19 u => match u with
            | (f_count, f_forced, a_players, a_edges, a_sets, a_greens, a_reds) => (((r_19 >>> (nI j &&& 31)) &&& 1) = 1 → (1 : Int32) = c ∧ i_Rel (k + 3) (nI n, hd, rn, so, pl, mv, st, ro, ma, it, wo, tu) (f_count, f_forced, a_players, a_edges, a_sets, a_greens, a_reds)) ∧ (¬ ((r_19 >>> (nI j &&& 31)) &&& 1) = 1 → (0 : Int32) = c ∧ i_Rel (k + 3) (nI n, hd, rn, so, pl, mv, st, ro, ma, it, wo, tu) (f_count, f_forced, a_players, a_edges, a_sets, a_greens, a_reds))) (nI n, ff, pl, e, st2, gr, rd) (nI g)))) (nI n, ff, pl, e, st2, gr, rd) (nI j)))) (nI n, ff, pl, e, st2, gr, rd) (nI g) := by
        intro c hc
        refine ygoal_ok hg (br_f (by decide) (ypos_ok hn hj (br_f (by decide) (rl_ys hR hg fun r ff gr rd hr => ?_))))
        dsimp only
        rw [ms_ext hr (hw g hg)]
        rcases hc with hc | hc
        · exact br_t hc.1 ⟨hc.2.symm, rl_in (rl_wo hR hw) _⟩
        · exact br_f hc.1 ⟨hc.2.symm, rl_in (rl_wo hR hw) _⟩
      exact br_c (fun h => toY 1 (Or.inl ⟨h, rfl⟩)) (fun h => toY 0 (Or.inr ⟨h, rfl⟩))
theorem i_vc_goodMoves {k : Nat} {u : SX} {v : SY} (I : i_Rel k u v) (hk : k + 3 ≤ 1536) (v1 : Int32) (v2 : Int32) : wpX_goodMoves (fun r u' => wpY_goodMoves (fun r' v' => r' = r ∧ i_Rel (k + 3) u' v') v v1 v2) u v1 v2 := by
  refine rl_el (P := fun u v => wpX_goodMoves (fun r u' => wpY_goodMoves (fun r' v' => r' = r ∧ i_Rel (k + 3) u' v') v v1 v2) u v1 v2) ?_ I
  intro n hd rn so pl mv st ro ma it wo tu ff e st2 gr rd hR
  have hn := hR.1.1
  unfold wpX_goodMoves wpY_goodMoves
  dsimp only
  rcases wn_ix v1 with h1 | ⟨g, hg, rfl⟩
  · exact xgoal_no h1 (br_f (by decide) (ygoal_no h1 (br_t rfl ⟨rfl, rl_in hR _⟩)))
  · rcases rl_ix v2 hn with h2 | ⟨j, hj, rfl⟩
    · exact xgoal_ok hg (br_t rfl (xbad_no h2 (br_f (by decide) (ygoal_ok hg (br_f (by decide) (ypos_no h2 (br_t rfl ⟨rfl, rl_in hR _⟩)))))))
    · refine xgoal_ok hg (br_t rfl (xbad_ok hn hj (br_t rfl (xw_solve hR.1 hR.2.2.2.2 fun hd rn so ro ma it wo tu hw => ?_))))
      dsimp only
      have hin : vp_in (nI j) 10 := vp_in_nI (by omega) (by decide)
      have hing : vp_in (nI g) 9 := vp_in_nI hg (by decide)
      have hcg : (nI g).toNatClampNeg = g := nI_clamp (by omega)
      have hcj : (nI j).toNatClampNeg = j := nI_clamp (by omega)
      rw [hcg, hcj]
      refine ⟨hin, br_c (fun h => ⟨hin, hing, ?_⟩) (fun h => ⟨hin, hing, ?_⟩)⟩
      · refine ygoal_ok hg (br_f (by decide) (ypos_ok hn hj (br_f (by decide) (rl_ys hR hg fun r ff gr rd hr => ?_))))
        dsimp only
        rw [hR.2.2.1 j hj, ms_ext hr (hw g hg)]
        exact ⟨hin, hin, br_t h ⟨rfl, rl_in (rl_wo hR hw) _⟩⟩
      · refine ygoal_ok hg (br_f (by decide) (ypos_ok hn hj (br_f (by decide) (rl_ys hR hg fun r ff gr rd hr => ?_))))
        dsimp only
        rw [hR.2.2.1 j hj, ms_ext hr (hw g hg)]
        exact ⟨hin, hin, br_f h ⟨rfl, rl_in (rl_wo hR hw) _⟩⟩
end
section
/-! goals and score -/
theorem gs_shl0 {g : Nat} (hg : g < 32) : (0 : Int32) <<< (nI g &&& 31) = 0 := by
  apply b_ext
  intro i hi
  rw [b_shl g hg 0 hi, b_0, b_0, Bool.and_false]
section
variable {n : Nat} {hd rn so ff : Int32} {pl mv st ro ma it wo tu e st2 gr rd : Nat → Int32}
theorem gs_x {v : Fin n} (hn : n ≤ 10) (hw : ∀ g, g < 9 → ms_M n (wo g) (so_Sol n pl mv st g)) {post : Int32 → SX → Prop}
    (hp : ∀ r, ms_N r (fun i => i < 9 ∧ so_Sol n pl mv st i v) → post r (nI n, hd, rn, so, pl, mv, st, ro, ma, it, wo, tu)) :
    ∀ d j x, j + d = 9 → ms_N x (fun i => i < j ∧ so_Sol n pl mv st i v) → wX_goals_18 post (nI v.1) (nI n) hd rn so pl mv st ro ma it wo tu (d + 1) x (nI j) := by
  have hv := v.2
  intro d
  induction d with
  | zero =>
    intro j x hj hx
    have e : j = 9 := by omega
    subst e
    exact br_t (nI_le (a := 9) (Nat.le_refl 9) (by decide)) (hp x hx)
  | succ d ih =>
    intro j x hj hx
    refine br_f (nI_ge (b := 9) (by omega) (by decide)) ⟨vp_in_nI (by omega) (by decide), ?_⟩
    rw [nI_clamp (by omega), ms_test _ (by omega)]
    refine nm_e (nm_r (nI_1 j) (ih (j + 1) _ (by omega) ?_))
    have hb := ms_at (hw j (by omega)) v
    by_cases h : bt (wo j) v.1 = true
    · rw [if_pos h]
      refine ms_N_congr (fun i => ?_) (ms_set hx (v := j) (by omega))
      constructor
      · intro z
        rcases z with z | z
        · exact ⟨by omega, z.2⟩
        · subst z
          exact ⟨by omega, hb.mp h⟩
      · intro z
        by_cases hij : i = j
        · exact Or.inr hij
        · exact Or.inl ⟨by omega, z.2⟩
    · rw [if_neg h, gs_shl0 (by omega)]
      intro i
      rw [b_or, b_0, Bool.or_false, hx i]
      constructor
      · exact fun z => ⟨by omega, z.2⟩
      · intro z
        have hij : i ≠ j := by
          intro e
          subst e
          exact h (hb.mpr z.2)
        exact ⟨by omega, z.2⟩
theorem gs_y {v : Fin n} (hR : rl_R n so pl mv st wo e st2) {post : Int32 → SY → Prop}
    (hp : ∀ r ff gr rd, ms_N r (fun i => i < 9 ∧ so_Sol n pl mv st i v) → post r (nI n, ff, pl, e, st2, gr, rd)) :
    ∀ d j x ff gr rd, j + d = 9 → ms_N x (fun i => i < j ∧ so_Sol n pl mv st i v) → wY_goals_14 post (nI v.1) (d + 1) x (nI j) (nI n) ff pl e st2 gr rd := by
  have hv := v.2
  have hn := hR.1.1
  intro d
  induction d with
  | zero =>
    intro j x ff gr rd hj hx
    have e : j = 9 := by omega
    subst e
    exact br_t (nI_le (a := 9) (Nat.le_refl 9) (by decide)) (hp x _ _ _ hx)
  | succ d ih =>
    intro j x ff gr rd hj hx
    refine br_f (nI_ge (b := 9) (by omega) (by decide)) (rl_ys hR (by omega) fun r ff gr rd hr => ?_)
    dsimp only
    rw [ms_test1 _ (by omega)]
    have hb := ms_at hr v
    by_cases h : bt r v.1 = true
    · refine br_t h (nm_e (nm_r (nI_1 j) (ih (j + 1) _ _ _ _ (by omega) (ms_N_congr (fun i => ?_) (ms_set hx (v := j) (by omega))))))
      constructor
      · intro z
        rcases z with z | z
        · exact ⟨by omega, z.2⟩
        · subst z
          exact ⟨by omega, hb.mp h⟩
      · intro z
        by_cases hij : i = j
        · exact Or.inr hij
        · exact Or.inl ⟨by omega, z.2⟩
    · refine br_f h (nm_r (nI_1 j) (ih (j + 1) _ _ _ _ (by omega) (ms_N_congr (fun i => ?_) hx)))
      constructor
      · exact fun z => ⟨by omega, z.2⟩
      · intro z
        have hij : i ≠ j := by
          intro e
          subst e
          exact h (hb.mpr z.2)
        exact ⟨by omega, z.2⟩
end
theorem gs_0 {P : Nat → Prop} : ms_N 0 (fun i => i < 0 ∧ P i) := by
  intro i
  rw [b_0]
  exact ⟨fun z => absurd z (by decide), fun z => absurd z.1 (by omega)⟩
theorem i_vc_goals {k : Nat} {u : SX} {v : SY} (I : i_Rel k u v) (hk : k + 3 ≤ 1536) (v1 : Int32) : wpX_goals (fun r u' => wpY_goals (fun r' v' => r' = r ∧ i_Rel (k + 3) u' v') v v1) u v1 := by
  refine rl_el (P := fun u v => wpX_goals (fun r u' => wpY_goals (fun r' v' => r' = r ∧ i_Rel (k + 3) u' v') v v1) u v1) ?_ I
  intro n hd rn so pl mv st ro ma it wo tu ff e st2 gr rd hR
  have hn := hR.1.1
  unfold wpX_goals wpY_goals
  dsimp only
  rcases rl_ix v1 hn with h1 | ⟨j, hj, rfl⟩
  · exact xbad_no h1 (br_f (by decide) (ypos_no h1 (br_t rfl ⟨rfl, rl_in hR _⟩)))
  · refine xbad_ok hn hj (br_t rfl (xw_solve hR.1 hR.2.2.2.2 fun hd rn so ro ma it wo tu hw => ?_))
    dsimp only
    refine ⟨9 + 1, gs_x (v := ⟨j, hj⟩) hn hw ?_ 9 0 0 (by omega) gs_0⟩
    intro r hr
    refine ypos_ok hn hj (br_f (by decide) ⟨9 + 1, gs_y (v := ⟨j, hj⟩) hR ?_ 9 0 0 _ _ _ (by omega) gs_0⟩)
    intro r2 ff gr rd hr2
    exact ⟨ms_N_ext hr2 hr, rl_in (rl_wo hR hw) _⟩
/-! sums -/
def sc_s (f : Nat → Nat) : Nat → Nat
  | 0 => 0
  | k + 1 => sc_s f k + f k
theorem sc_congr {f g : Nat → Nat} : ∀ k, (∀ i, i < k → f i = g i) → sc_s f k = sc_s g k := by
  intro k
  induction k with
  | zero => exact fun _ => rfl
  | succ k ih =>
    intro h
    show sc_s f k + f k = sc_s g k + g k
    rw [ih (fun i hi => h i (by omega)), h k (by omega)]
theorem sc_add (f : Nat → Nat) (a : Nat) : ∀ b, sc_s f (a + b) = sc_s f a + sc_s (fun i => f (a + i)) b := by
  intro b
  induction b with
  | zero => rfl
  | succ b ih =>
    show sc_s f (a + b) + f (a + b) = sc_s f a + (sc_s (fun i => f (a + i)) b + f (a + b))
    rw [ih, Nat.add_assoc]
theorem sc_plus (f g : Nat → Nat) : ∀ k, sc_s (fun i => f i + g i) k = sc_s f k + sc_s g k := by
  intro k
  induction k with
  | zero => rfl
  | succ k ih =>
    show sc_s (fun i => f i + g i) k + (f k + g k) = sc_s f k + f k + (sc_s g k + g k)
    rw [ih]
    omega
theorem sc_zero : ∀ k, sc_s (fun _ => 0) k = 0 := by
  intro k
  induction k with
  | zero => rfl
  | succ k ih =>
    show sc_s (fun _ => 0) k + 0 = 0
    rw [ih]
theorem sc_swap (f : Nat → Nat → Nat) (k : Nat) : ∀ n, sc_s (fun v => sc_s (fun g => f g v) k) n = sc_s (fun g => sc_s (f g) n) k := by
  intro n
  induction n with
  | zero => exact (sc_zero k).symm
  | succ n ih =>
    show sc_s (fun v => sc_s (fun g => f g v) k) n + sc_s (fun g => f g n) k = sc_s (fun g => sc_s (f g) n + f g n) k
    rw [ih, sc_plus]
theorem sc_flat (f : Nat → Nat → Nat) : ∀ n, sc_s (fun i => f (i % 9) (i / 9)) (9 * n) = sc_s (fun v => sc_s (fun g => f g v) 9) n := by
  intro n
  induction n with
  | zero => rfl
  | succ n ih =>
    show sc_s (fun i => f (i % 9) (i / 9)) (9 * n + 9) = sc_s (fun v => sc_s (fun g => f g v) 9) n + sc_s (fun g => f g n) 9
    rw [sc_add, ih]
    congr 1
    refine sc_congr 9 fun i hi => ?_
    show f ((9 * n + i) % 9) ((9 * n + i) / 9) = f i n
    rw [show (9 * n + i) % 9 = i by omega, show (9 * n + i) / 9 = n by omega]
noncomputable def sc_b (n : Nat) (pl mv st : Nat → Int32) (g v : Nat) : Nat := (mo_b n (so_Sol n pl mv st g) v).toNat
theorem sc_bit {n : Nat} {pl mv st : Nat → Int32} {g v : Nat} {r : Int32} (hr : ms_M n r (so_Sol n pl mv st g)) (hv : v < 32) : (r >>> (nI v &&& 31)) &&& 1 = nI (sc_b n pl mv st g v) := by
  rw [ms_test _ hv]
  unfold sc_b
  by_cases h : bt r v = true
  · rw [if_pos h, mo_bt.mpr ((hr v).mp h)]
    rfl
  · rw [if_neg h]
    cases hb : mo_b n (so_Sol n pl mv st g) v with
    | false => rfl
    | true => exact absurd ((hr v).mpr (mo_bt.mp hb)) h
section
variable {n : Nat} {hd rn so ff : Int32} {pl mv st ro ma it wo tu e st2 gr rd : Nat → Int32}
theorem sc_x16 (hn : n ≤ 10) {g : Nat} (hg : g < 9) (hw : ms_M n (wo g) (so_Sol n pl mv st g)) {post : Int32 → SX → Prop} {J : Int32 → Int32 → Prop} {s : Nat} (hJ : J (nI (s + sc_s (sc_b n pl mv st g) n)) (nI (g + 1))) :
    ∀ d j, j + d = n → wX_score_16 post J (nI g) (nI n) hd rn so pl mv st ro ma it wo tu (d + 1) (nI (s + sc_s (sc_b n pl mv st g) j)) (nI j) := by
  intro d
  induction d with
  | zero =>
    intro j hj
    have e : j = n := by omega
    subst e
    exact br_t (nI_le (by omega) (by omega)) (nm_r (nI_1 g) hJ)
  | succ d ih =>
    intro j hj
    refine br_f (nI_ge (by omega) (by omega)) ⟨vp_in_nI hg (by decide), ?_⟩
    rw [nI_clamp (by omega), sc_bit hw (by omega), nI_add, Nat.add_assoc s]
    exact nm_e (nm_r (nI_1 j) (ih (j + 1) (by omega)))
theorem sc_x8 (hn : n ≤ 10) (hw : ∀ g, g < 9 → ms_M n (wo g) (so_Sol n pl mv st g)) {post : Int32 → SX → Prop}
    (hp : post (nI (sc_s (fun g => sc_s (sc_b n pl mv st g) n) 9)) (nI n, hd, rn, so, pl, mv, st, ro, ma, it, wo, tu)) :
    ∀ d g, g + d = 9 → wX_score_8 post (nI n) hd rn so pl mv st ro ma it wo tu (d + 1) (nI (sc_s (fun g => sc_s (sc_b n pl mv st g) n) g)) (nI g) := by
  intro d
  induction d with
  | zero =>
    intro g hg
    have e : g = 9 := by omega
    subst e
    exact br_t (nI_le (a := 9) (Nat.le_refl 9) (by decide)) hp
  | succ d ih =>
    intro g hg
    refine br_f (nI_ge (b := 9) (by omega) (by decide)) ⟨n + 1, ?_⟩
    exact sc_x16 hn (by omega) (hw g (by omega)) (s := sc_s (fun g => sc_s (sc_b n pl mv st g) n) g) (ih (g + 1) (by omega)) n 0 (by omega)
theorem sc_y (hR : rl_R n so pl mv st wo e st2) {post : Int32 → SY → Prop} (hp : ∀ ff gr rd, post (nI (sc_s (fun i => sc_b n pl mv st (i % 9) (i / 9)) (9 * n))) (nI n, ff, pl, e, st2, gr, rd)) :
    ∀ d j ff gr rd, j + d = 9 * n → wY_score_4 post (d + 1) (nI (sc_s (fun i => sc_b n pl mv st (i % 9) (i / 9)) j)) (nI j) (nI n) ff pl e st2 gr rd := by
  have hn := hR.1.1
  have e9 : (9 : Int32) * nI n = nI (9 * n) := pk_mul 9 n
  intro d
  induction d with
  | zero =>
    intro j ff gr rd hj
    have e : j = 9 * n := by omega
    subst e
    exact br_t (by rw [e9]; exact nI_le (by omega) (by omega)) (hp _ _ _)
  | succ d ih =>
    intro j ff gr rd hj
    refine br_f (by rw [e9]; exact nI_ge (by omega) (by omega)) ⟨by decide, ?_⟩
    have ed : nI j / 9 = nI (j / 9) := pk_div (d := 9) (by omega) (by decide) (by decide)
    have er : nI j - nI j / 9 * 9 = nI (j % 9) := pk_rem (d := 9) (by omega) (by decide) (by decide)
    rw [er, ed]
    refine rl_ys hR (Nat.mod_lt _ (by decide)) fun r ff gr rd hr => ?_
    dsimp only
    refine ⟨by decide, ?_⟩
    rw [sc_bit hr (by omega), nI_add]
    exact nm_e (nm_r (nI_1 j) (ih (j + 1) _ _ _ (by omega)))
end
theorem i_vc_score {k : Nat} {u : SX} {v : SY} (I : i_Rel k u v) (hk : k + 3 ≤ 1536) : wpX_score (fun r u' => wpY_score (fun r' v' => r' = r ∧ i_Rel (k + 3) u' v') v) u := by
  refine rl_el (P := fun u v => wpX_score (fun r u' => wpY_score (fun r' v' => r' = r ∧ i_Rel (k + 3) u' v') v) u) ?_ I
  intro n hd rn so pl mv st ro ma it wo tu ff e st2 gr rd hR
  have hn := hR.1.1
  unfold wpX_score
  dsimp only
  refine xw_solve hR.1 hR.2.2.2.2 fun hd rn so ro ma it wo tu hw => ?_
  dsimp only
  refine ⟨9 + 1, sc_x8 hn hw ?_ 9 0 (by omega)⟩
  refine ⟨9 * n + 1, sc_y hR ?_ (9 * n) 0 _ _ _ (by omega)⟩
  intro ff gr rd
  refine ⟨?_, rl_in (rl_wo hR hw) _⟩
  rw [sc_flat (fun g v => sc_b n pl mv st g v), sc_swap (fun g v => sc_b n pl mv st g v)]
end
