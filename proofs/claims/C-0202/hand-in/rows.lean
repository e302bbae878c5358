section
/-! bits of naturals under nI: rows pasted from the kit (pk_), and own rows rb_ -/
theorem pk_us {f : Nat → Int32} {k : Nat} {x : Int32} : upd f k x k = x := if_pos rfl
theorem pk_un {f : Nat → Int32} {k j : Nat} {x : Int32} (h : j ≠ k) : upd f k x j = f j := if_neg h
theorem pk_sub {a b : Nat} (h : b ≤ a) : nI a - nI b = nI (a - b) := by
  obtain ⟨c, rfl⟩ : ∃ c, a = c + b := ⟨a - b, by omega⟩
  rw [← nI_add, Int32.add_sub_cancel, Nat.add_sub_cancel]
theorem pk_m1 (n : Nat) : nI (n + 1) + (-1) = nI n := by
  rw [← nI_1, Int32.add_assoc, show (1 : Int32) + (-1) = 0 from rfl, Int32.add_zero]
theorem pk_mul (a b : Nat) : nI a * nI b = nI (a * b) := (Int32.ofNat_mul a b).symm
theorem pk_ix (x : Int32) {n : Nat} (hn : n < 2 ^ 31) : x < 0 ∨ nI n ≤ x ∨ ∃ j : Nat, j < n ∧ x = nI j := by
  by_cases h : x < 0
  · exact Or.inl h
  · obtain ⟨j, hj, rfl⟩ := nI_of h
    by_cases h2 : j < n
    · exact Or.inr (Or.inr ⟨j, h2, rfl⟩)
    · exact Or.inr (Or.inl (nI_le (by omega) hj))
theorem pk_le {x y : Int32} {A B : Prop} (a b : Nat) (f : a ≤ b → A) (g : b < a → B) (hx : x = nI a := by rfl) (hy : y = nI b := by rfl) (ha : a < 2 ^ 31 := by omega) (hb : b < 2 ^ 31 := by omega) : (x ≤ y → A) ∧ (¬ x ≤ y → B) := by
  subst hx hy
  rw [nI_leI ha hb]
  exact ⟨f, fun z => g (by omega)⟩
theorem pk_lt {x y : Int32} {A B : Prop} (a b : Nat) (f : a < b → A) (g : b ≤ a → B) (hx : x = nI a := by rfl) (hy : y = nI b := by rfl) (ha : a < 2 ^ 31 := by omega) (hb : b < 2 ^ 31 := by omega) : (x < y → A) ∧ (¬ x < y → B) := by
  subst hx hy
  rw [nI_ltI ha hb]
  exact ⟨f, fun z => g (by omega)⟩
theorem pk_eq {x y : Int32} {A B : Prop} (a b : Nat) (f : a = b → A) (g : a ≠ b → B) (hx : x = nI a := by rfl) (hy : y = nI b := by rfl) (ha : a < 2 ^ 31 := by omega) (hb : b < 2 ^ 31 := by omega) : (x = y → A) ∧ (¬ x = y → B) := by
  subst hx hy
  rw [nI_eq ha hb]
  exact ⟨f, g⟩
theorem pk_in {x : Int32} (n N : Nat) (h : n < N) (hx : x = nI n := by rfl) (hN : N < 2 ^ 31 := by omega) : vp_in x N := by
  subst hx
  exact vp_in_nI h hN
theorem pk_cl {x : Int32} (n : Nat) (hx : x = nI n := by rfl) (h : n < 2 ^ 31 := by omega) : x.toNatClampNeg = n := by
  subst hx
  exact nI_clamp h
theorem pk_tn {n : Nat} (h : n < 2 ^ 32) : (nI n).toBitVec.toNat = n := Nat.mod_eq_of_lt h
theorem pk_shl (a s : Int32) (k : Nat) (hs : (s.toBitVec.smod 32).toNat = k) : (a <<< s).toBitVec.toNat = a.toBitVec.toNat * 2 ^ k % 2 ^ 32 := by
  show (a.toBitVec <<< (s.toBitVec.smod 32).toNat).toNat = _
  rw [hs, BitVec.toNat_shiftLeft, Nat.shiftLeft_eq]
theorem pk_shlN {n : Nat} (s : Int32) (k : Nat) (hs : (s.toBitVec.smod 32).toNat = k) (h : n * 2 ^ k < 2 ^ 32) : nI n <<< s = nI (n * 2 ^ k) := by
  apply Int32.toBitVec_inj.mp
  apply BitVec.eq_of_toNat_eq
  have hn : n < 2 ^ 32 := Nat.lt_of_le_of_lt (Nat.le_mul_of_pos_right n (Nat.two_pow_pos k)) h
  rw [pk_shl _ _ k hs, pk_tn hn, pk_tn h, Nat.mod_eq_of_lt h]
theorem pk_shr (a s : Int32) (k : Nat) (hs : (s.toBitVec.smod 32).toNat = k) : (a >>> s).toInt = a.toInt >>> k := by
  show (a.toBitVec.sshiftRight (s.toBitVec.smod 32).toNat).toInt = _
  rw [hs, BitVec.toInt_sshiftRight]
  rfl
theorem pk_shrN {n : Nat} (h : n < 2 ^ 31) (s : Int32) (k : Nat) (hs : (s.toBitVec.smod 32).toNat = k) : nI n >>> s = nI (n / 2 ^ k) := by
  apply Int32.toInt_inj.mp
  have h2 : n / 2 ^ k ≤ n := Nat.div_le_self _ _
  rw [pk_shr _ _ k hs, nI_toInt h, nI_toInt (by omega), Int.shiftRight_eq_div_pow]
  rfl
theorem pk_loop {σ : Type} (W : Nat → Nat → σ → Prop) (I : Nat → σ → Prop) (e i0 : Nat) (s : σ) (hi : i0 ≤ e) (h0 : I i0 s) (hx : ∀ n s, I e s → W (n + 1) e s)
    (hs : ∀ n i s, i < e → I i s → (∀ s', I (i + 1) s' → W n (i + 1) s') → W (n + 1) i s) : ∃ n, W n i0 s :=
  ⟨e + 1, loop_i W I e hx hs (e + 1) i0 s hi (by omega) h0⟩
theorem rb_and (a b : Nat) : nI a &&& nI b = nI (a &&& b) := by
  apply Int32.toBitVec_inj.1
  show BitVec.ofNat 32 a &&& BitVec.ofNat 32 b = BitVec.ofNat 32 (a &&& b)
  apply BitVec.eq_of_getLsbD_eq
  intro i hi
  simp [hi]
theorem rb_or (a b : Nat) : nI a ||| nI b = nI (a ||| b) := by
  apply Int32.toBitVec_inj.1
  show BitVec.ofNat 32 a ||| BitVec.ofNat 32 b = BitVec.ofNat 32 (a ||| b)
  apply BitVec.eq_of_getLsbD_eq
  intro i hi
  simp [hi]
theorem rb_xor (a b : Nat) : nI a ^^^ nI b = nI (a ^^^ b) := by
  apply Int32.toBitVec_inj.1
  show BitVec.ofNat 32 a ^^^ BitVec.ofNat 32 b = BitVec.ofNat 32 (a ^^^ b)
  apply BitVec.eq_of_getLsbD_eq
  intro i hi
  simp [hi]
theorem rb_sl : ∀ n, n < 32 → ((nI n &&& 31).toBitVec.smod 32).toNat = n := by decide +kernel
theorem rb_shr {a k : Nat} (ha : a < 2 ^ 31) (hk : k < 32) : nI a >>> (nI k &&& 31) = nI (a >>> k) := by
  rw [pk_shrN ha _ k (rb_sl k hk), Nat.shiftRight_eq_div_pow]
theorem rb_shl {a k : Nat} (hk : k < 32) (h : a * 2 ^ k < 2 ^ 32) : nI a <<< (nI k &&& 31) = nI (a * 2 ^ k) :=
  pk_shlN _ k (rb_sl k hk) h
theorem rb_pw {a b : Nat} (h : a ≤ b) : 2 ^ a ≤ 2 ^ b := Nat.pow_le_pow_right (by decide) h
theorem rb_one {k : Nat} (hk : k < 31) : (1 : Int32) <<< (nI k &&& 31) = nI (2 ^ k) := by
  have h : 2 ^ k ≤ 2 ^ 30 := rb_pw (by omega)
  have e := rb_shl (a := 1) (k := k) (by omega) (by omega)
  rw [Nat.one_mul] at e
  exact e
theorem rb_bit {a k : Nat} (ha : a < 2 ^ 31) (hk : k < 32) : (nI a >>> (nI k &&& 31)) &&& 1 = nI (a.testBit k).toNat := by
  rw [rb_shr ha hk]
  show nI (a >>> k) &&& nI 1 = _
  rw [rb_and, Nat.and_one_is_mod, Nat.shiftRight_eq_div_pow, Nat.toNat_testBit]
theorem rb_has {post : Int32 → Prop} {a k : Nat} (ha : a < 2 ^ 31) (hk : k < 32) (ht : a.testBit k = true → post 1) (hf : a.testBit k = false → post 0) : wpX_has post (nI a) (nI k) := by
  unfold wpX_has
  rw [rb_bit ha hk]
  cases h : a.testBit k
  · exact br_f (by decide) (hf h)
  · exact br_t (by decide) (ht h)
theorem rb_hif {A B : Prop} {a k : Nat} (ha : a < 2 ^ 31) (hk : k < 32) (ht : a.testBit k = true → B) (hf : a.testBit k = false → A) : wpX_has (fun r => (r = 0 → A) ∧ (¬ r = 0 → B)) (nI a) (nI k) :=
  rb_has ha hk (fun h => br_f (by decide) (ht h)) (fun h => br_t rfl (hf h))
theorem rb_lt (b : Bool) : b.toNat < 2 := by cases b <;> decide
theorem rb_inj {a b : Bool} (h : a.toNat = b.toNat) : a = b := by revert h; cases a <;> cases b <;> decide
theorem rb_t3 : ∀ t, t < 8 → t >>> 2 = (t.testBit 2).toNat ∧ (t >>> 1) &&& 1 = (t.testBit 1).toNat ∧ t &&& 1 = (t.testBit 0).toNat := by decide +kernel
/-- iterate g over 0 .. k - 1 -/
def rb_fo (g : Nat → Nat → Nat) (a : Nat) : Nat → Nat
  | 0 => a
  | k + 1 => g k (rb_fo g a k)
end
section
/-! the pure net: assignments, domains, constraints, narrowing -/
def rn_tri (a b d : Bool) : Nat := 4 * a.toNat + 2 * b.toNat + d.toNat
theorem rn_tri_lt (a b d : Bool) : rn_tri a b d < 8 := by cases a <;> cases b <;> cases d <;> decide
theorem rn_tri_b (a b d : Bool) : (rn_tri a b d).testBit 2 = a ∧ (rn_tri a b d).testBit 1 = b ∧ (rn_tri a b d).testBit 0 = d := by
  cases a <;> cases b <;> cases d <;> decide
theorem rn_tri_of : ∀ t, t < 8 → rn_tri (t.testBit 2) (t.testBit 1) (t.testBit 0) = t := by decide +kernel
/-- e chooses within the domains -/
def rn_In (n : Nat) (D : Nat → Nat) (e : Nat → Bool) : Prop := ∀ v, v < n → (D v).testBit (e v).toNat = true
/-- e meets the constraints c with A c -/
def rn_Sat (A : Nat → Prop) (tb X Y Z : Nat → Nat) (e : Nat → Bool) : Prop :=
  ∀ c, A c → (tb c).testBit (rn_tri (e (X c)) (e (Y c)) (e (Z c))) = true
def rn_Sol (n : Nat) (A : Nat → Prop) (tb X Y Z D : Nat → Nat) (e : Nat → Bool) : Prop := rn_In n D e ∧ rn_Sat A tb X Y Z e
def rn_Vars (n : Nat) (A : Nat → Prop) (X Y Z : Nat → Nat) : Prop := ∀ c, A c → X c < n ∧ Y c < n ∧ Z c < n
def rn_Fit (D : Nat → Nat) (x y z T t : Nat) : Prop :=
  t < 8 ∧ (x = y → t.testBit 2 = t.testBit 1) ∧ (x = z → t.testBit 2 = t.testBit 0) ∧ (y = z → t.testBit 1 = t.testBit 0)
  ∧ (D x).testBit (t.testBit 2).toNat = true ∧ (D y).testBit (t.testBit 1).toNat = true ∧ (D z).testBit (t.testBit 0).toNat = true ∧ T.testBit t = true
def rn_Nar (D D' : Nat → Nat) (x y z T : Nat) : Prop := ∀ (v : Nat) (b : Bool),
  (D' v).testBit b.toNat = true ↔ ((D v).testBit b.toNat = true ∧ (v = x → ∃ t, rn_Fit D x y z T t ∧ t.testBit 2 = b)
    ∧ (v = y → ∃ t, rn_Fit D x y z T t ∧ t.testBit 1 = b) ∧ (v = z → ∃ t, rn_Fit D x y z T t ∧ t.testBit 0 = b))
/-- every value left has a fitting triple -/
def rn_Gc (D : Nat → Nat) (x y z T : Nat) : Prop := ∀ b : Bool,
  ((D x).testBit b.toNat = true → ∃ t, rn_Fit D x y z T t ∧ t.testBit 2 = b)
  ∧ ((D y).testBit b.toNat = true → ∃ t, rn_Fit D x y z T t ∧ t.testBit 1 = b)
  ∧ ((D z).testBit b.toNat = true → ∃ t, rn_Fit D x y z T t ∧ t.testBit 0 = b)
def rn_Gac (A : Nat → Prop) (tb X Y Z D : Nat → Nat) : Prop := ∀ c, A c → rn_Gc D (X c) (Y c) (Z c) (tb c)
/-- all domains below n stand, none is empty -/
def rn_Ne (n : Nat) (D : Nat → Nat) : Prop := ∀ v, v < n → D v < 4 ∧ D v ≠ 0
def rn_Sub (n : Nat) (D' D : Nat → Nat) : Prop := ∀ v, v < n → ∀ b : Bool, (D' v).testBit b.toNat = true → (D v).testBit b.toNat = true
theorem rn_ne4 : ∀ d, d < 4 → (d ≠ 0 ↔ ∃ b : Bool, d.testBit b.toNat = true) := by decide +kernel
theorem rn_eq4 : ∀ d, d < 4 → ∀ d', d' < 4 → (∀ b : Bool, d.testBit b.toNat = true ↔ d'.testBit b.toNat = true) → d = d' := by decide +kernel
theorem rn_sub3a : ∀ d, d < 4 → ∀ d', d' < 4 → ((d'.testBit 0 && !d.testBit 0) || (d'.testBit 1 && !d.testBit 1) || ((d' != 3 || d == 3) && (d' == d || d' == 0 || (d == 3 && d' != 3)))) = true := by decide +kernel
theorem rn_sub3 (d : Nat) (h : d < 4) (d' : Nat) (h' : d' < 4) (hb : ∀ b : Bool, d'.testBit b.toNat = true → d.testBit b.toNat = true) :
    (d' = 3 → d = 3) ∧ (d' ≠ d → d' ≠ 0 → d = 3 ∧ d' ≠ 3) := by
  have k := rn_sub3a d h d' h'
  have h0 : (d'.testBit 0 && !d.testBit 0) = false := by
    have : d'.testBit 0 = true → d.testBit 0 = true := hb false
    cases p : d'.testBit 0
    · rfl
    · rw [this p]; rfl
  have h1 : (d'.testBit 1 && !d.testBit 1) = false := by
    have : d'.testBit 1 = true → d.testBit 1 = true := hb true
    cases p : d'.testBit 1
    · rfl
    · rw [this p]; rfl
  rw [h0, h1] at k
  simp only [Bool.false_or, Bool.and_eq_true, Bool.or_eq_true, bne_iff_ne, beq_iff_eq] at k
  obtain ⟨a, b⟩ := k
  exact ⟨fun q => a.elim (fun k => absurd q k) id, fun p q => b.elim (fun k => k.elim (fun m => absurd m p) (fun m => absurd m q)) id⟩
theorem rn_one : ∀ d, d < 4 → d ≠ 0 → d ≠ 3 → ∀ b : Bool, d.testBit b.toNat = true ↔ b = decide (d = 2) := by decide +kernel
theorem rn_sub_sol {n : Nat} {A : Nat → Prop} {tb X Y Z D D' : Nat → Nat} {e : Nat → Bool} (h : rn_Sub n D' D) (he : rn_Sol n A tb X Y Z D' e) : rn_Sol n A tb X Y Z D e :=
  ⟨fun v hv => h v hv _ (he.1 v hv), he.2⟩
theorem rn_sol_cg {n : Nat} {A : Nat → Prop} {tb X Y Z D : Nat → Nat} {e e' : Nat → Bool} (hV : rn_Vars n A X Y Z) (h : ∀ v, v < n → e v = e' v)
    (he : rn_Sol n A tb X Y Z D e) : rn_Sol n A tb X Y Z D e' := by
  refine ⟨fun v hv => ?_, fun c hc => ?_⟩
  · rw [← h v hv]; exact he.1 v hv
  · obtain ⟨a, b, d⟩ := hV c hc
    rw [← h _ a, ← h _ b, ← h _ d]; exact he.2 c hc
theorem rn_nar_sol {n : Nat} {D D' : Nat → Nat} {x y z T : Nat} {e : Nat → Bool} (h : rn_Nar D D' x y z T) (hx : x < n) (hy : y < n) (hz : z < n)
    (he : rn_In n D e) (ht : T.testBit (rn_tri (e x) (e y) (e z)) = true) : rn_In n D' e ∧ rn_Fit D x y z T (rn_tri (e x) (e y) (e z)) := by
  have b := rn_tri_b (e x) (e y) (e z)
  have f : rn_Fit D x y z T (rn_tri (e x) (e y) (e z)) := by
    unfold rn_Fit
    rw [b.1, b.2.1, b.2.2]
    exact ⟨rn_tri_lt _ _ _, fun q => by rw [q], fun q => by rw [q], fun q => by rw [q], he x hx, he y hy, he z hz, ht⟩
  exact ⟨fun v hv => (h v (e v)).mpr ⟨he v hv, fun q => ⟨_, f, by rw [b.1, q]⟩, fun q => ⟨_, f, by rw [b.2.1, q]⟩, fun q => ⟨_, f, by rw [b.2.2, q]⟩⟩, f⟩
theorem rn_nar_ne {D D' : Nat → Nat} {x y z T t : Nat} (h : rn_Nar D D' x y z T) (f : rn_Fit D x y z T t) (v : Nat)
    (hv : ∃ b : Bool, (D v).testBit b.toNat = true) : ∃ b : Bool, (D' v).testBit b.toNat = true := by
  have f' := f
  obtain ⟨_, f1, f2, f3, f4, f5, f6, _⟩ := f'
  by_cases hx : v = x
  · refine ⟨t.testBit 2, (h v _).mpr ⟨by rw [hx]; exact f4, fun _ => ⟨t, f, rfl⟩, fun q => ⟨t, f, (f1 (hx.symm.trans q)).symm⟩, fun q => ⟨t, f, (f2 (hx.symm.trans q)).symm⟩⟩⟩
  · by_cases hy : v = y
    · refine ⟨t.testBit 1, (h v _).mpr ⟨by rw [hy]; exact f5, fun q => absurd q hx, fun _ => ⟨t, f, rfl⟩, fun q => ⟨t, f, (f3 (hy.symm.trans q)).symm⟩⟩⟩
    · by_cases hz : v = z
      · exact ⟨t.testBit 0, (h v _).mpr ⟨by rw [hz]; exact f6, fun q => absurd q hx, fun q => absurd q hy, fun _ => ⟨t, f, rfl⟩⟩⟩
      · obtain ⟨b, hb⟩ := hv
        exact ⟨b, (h v b).mpr ⟨hb, fun q => absurd q hx, fun q => absurd q hy, fun q => absurd q hz⟩⟩
theorem rn_nar_gc {D D' : Nat → Nat} {x y z T : Nat} (h : rn_Nar D D' x y z T) (e : D' = D) : rn_Gc D x y z T := by
  subst e
  exact fun b => ⟨fun q => ((h x b).mp q).2.1 rfl, fun q => ((h y b).mp q).2.2.1 rfl, fun q => ((h z b).mp q).2.2.2 rfl⟩
/-- all domains of one value, every value supported: one solution -/
theorem rn_leaf {n : Nat} {A : Nat → Prop} {tb X Y Z D : Nat → Nat} (hV : rn_Vars n A X Y Z) (hn : rn_Ne n D) (g : rn_Gac A tb X Y Z D)
    (h1 : ∀ v, v < n → D v ≠ 3) (e : Nat → Bool) : rn_Sol n A tb X Y Z D e ↔ ∀ v, v < n → e v = decide (D v = 2) := by
  have K : ∀ v, v < n → ∀ b : Bool, (D v).testBit b.toNat = true ↔ b = decide (D v = 2) := fun v hv => rn_one _ (hn v hv).1 (hn v hv).2 (h1 v hv)
  constructor
  · exact fun h v hv => (K v hv _).mp (h.1 v hv)
  · intro h
    have hi : rn_In n D e := fun v hv => (K v hv _).mpr (h v hv)
    refine ⟨hi, fun c hc => ?_⟩
    obtain ⟨hx, hy, hz⟩ := hV c hc
    obtain ⟨t, f, ft⟩ := (g c hc (e (X c))).1 (hi _ hx)
    have e2 : t.testBit 1 = e (Y c) := ((K _ hy _).mp f.2.2.2.2.2.1).trans (h _ hy).symm
    have e3 : t.testBit 0 = e (Z c) := ((K _ hz _).mp f.2.2.2.2.2.2.1).trans (h _ hz).symm
    rw [← ft, ← e2, ← e3, rn_tri_of t f.1]
    exact f.2.2.2.2.2.2.2
theorem rn_tri_eq {s : Nat} {p q r : Bool} (hs : s < 8) (h2 : s.testBit 2 = p) (h1 : s.testBit 1 = q) (h0 : s.testBit 0 = r) : s = rn_tri p q r := by
  rw [← h2, ← h1, ← h0, rn_tri_of s hs]
/-- closed under meet: the least values do -/
theorem rn_meet {n : Nat} {A : Nat → Prop} {tb X Y Z D : Nat → Nat} (hV : rn_Vars n A X Y Z) (hn : rn_Ne n D) (g : rn_Gac A tb X Y Z D)
    (hm : ∀ c, A c → ∀ s, s < 8 → ∀ t, t < 8 → (tb c).testBit s = true → (tb c).testBit t = true → (tb c).testBit (s &&& t) = true) :
    ∃ e, rn_Sol n A tb X Y Z D e := by
  refine ⟨fun v => !((D v).testBit 0), ?_, ?_⟩
  · intro v hv
    exact (by decide +kernel : ∀ d, d < 4 → d ≠ 0 → d.testBit (!(d.testBit 0)).toNat = true) (D v) (hn v hv).1 (hn v hv).2
  · intro c hc
    obtain ⟨hx, hy, hz⟩ := hV c hc
    have I : ∀ v, v < n → (D v).testBit (!((D v).testBit 0)).toNat = true := fun v hv =>
      (by decide +kernel : ∀ d, d < 4 → d ≠ 0 → d.testBit (!(d.testBit 0)).toNat = true) (D v) (hn v hv).1 (hn v hv).2
    obtain ⟨t1, f1, g1⟩ := (g c hc _).1 (I _ hx)
    obtain ⟨t2, f2, g2⟩ := (g c hc _).2.1 (I _ hy)
    obtain ⟨t3, f3, g3⟩ := (g c hc _).2.2 (I _ hz)
    have J : ∀ (d : Nat) (b : Bool), d.testBit b.toNat = true → (!(d.testBit 0)) = true → b = true := by
      intro d b h1 h2
      cases b
      · have h1' : d.testBit 0 = true := h1
        rw [h1'] at h2
        exact absurd h2 (by decide)
      · rfl
    have M : ∀ (p a b d : Bool), (p = true → a = true ∧ b = true ∧ d = true) → (p = false → a = false ∨ b = false ∨ d = false) → (a && b && d) = p := by decide
    obtain ⟨s1, _, _, _, a1, b1, d1, m1⟩ := f1
    obtain ⟨s2, _, _, _, a2, b2, d2, m2⟩ := f2
    obtain ⟨s3, _, _, _, a3, b3, d3, m3⟩ := f3
    have l12 : t1 &&& t2 < 8 := Nat.lt_of_le_of_lt Nat.and_le_left s1
    have l : (t1 &&& t2) &&& t3 < 8 := Nat.lt_of_le_of_lt Nat.and_le_left l12
    have k2 : ((t1 &&& t2) &&& t3).testBit 2 = !((D (X c)).testBit 0) := by
      rw [Nat.testBit_and, Nat.testBit_and]
      exact M _ _ _ _ (fun q => ⟨J _ _ a1 q, J _ _ a2 q, J _ _ a3 q⟩) (fun q => Or.inl (g1.trans q))
    have k1 : ((t1 &&& t2) &&& t3).testBit 1 = !((D (Y c)).testBit 0) := by
      rw [Nat.testBit_and, Nat.testBit_and]
      exact M _ _ _ _ (fun q => ⟨J _ _ b1 q, J _ _ b2 q, J _ _ b3 q⟩) (fun q => Or.inr (Or.inl (g2.trans q)))
    have k0 : ((t1 &&& t2) &&& t3).testBit 0 = !((D (Z c)).testBit 0) := by
      rw [Nat.testBit_and, Nat.testBit_and]
      exact M _ _ _ _ (fun q => ⟨J _ _ d1 q, J _ _ d2 q, J _ _ d3 q⟩) (fun q => Or.inr (Or.inr (g3.trans q)))
    show (tb c).testBit (rn_tri (!((D (X c)).testBit 0)) (!((D (Y c)).testBit 0)) (!((D (Z c)).testBit 0))) = true
    rw [← k2, ← k1, ← k0, rn_tri_of _ l]
    exact hm c hc _ l12 _ s3 (hm c hc _ s1 _ s2 m1 m2) m3
theorem rn_join {n : Nat} {A : Nat → Prop} {tb X Y Z D : Nat → Nat} (hV : rn_Vars n A X Y Z) (hn : rn_Ne n D) (g : rn_Gac A tb X Y Z D)
    (hm : ∀ c, A c → ∀ s, s < 8 → ∀ t, t < 8 → (tb c).testBit s = true → (tb c).testBit t = true → (tb c).testBit (s ||| t) = true) :
    ∃ e, rn_Sol n A tb X Y Z D e := by
  have I : ∀ v, v < n → (D v).testBit ((D v).testBit 1).toNat = true := fun v hv =>
    (by decide +kernel : ∀ d, d < 4 → d ≠ 0 → d.testBit (d.testBit 1).toNat = true) (D v) (hn v hv).1 (hn v hv).2
  refine ⟨fun v => (D v).testBit 1, I, ?_⟩
  intro c hc
  obtain ⟨hx, hy, hz⟩ := hV c hc
  obtain ⟨t1, f1, g1⟩ := (g c hc _).1 (I _ hx)
  obtain ⟨t2, f2, g2⟩ := (g c hc _).2.1 (I _ hy)
  obtain ⟨t3, f3, g3⟩ := (g c hc _).2.2 (I _ hz)
  have J : ∀ (d : Nat) (b : Bool), d.testBit b.toNat = true → d.testBit 1 = false → b = false := by
    intro d b h1 h2
    cases b
    · rfl
    · have h1' : d.testBit 1 = true := h1
      rw [h1'] at h2
      exact absurd h2 (by decide)
  have M : ∀ (p a b d : Bool), (p = false → a = false ∧ b = false ∧ d = false) → (p = true → a = true ∨ b = true ∨ d = true) → (a || b || d) = p := by decide
  obtain ⟨s1, _, _, _, a1, b1, d1, m1⟩ := f1
  obtain ⟨s2, _, _, _, a2, b2, d2, m2⟩ := f2
  obtain ⟨s3, _, _, _, a3, b3, d3, m3⟩ := f3
  have l12 : t1 ||| t2 < 8 := Nat.or_lt_two_pow (n := 3) s1 s2
  have l : (t1 ||| t2) ||| t3 < 8 := Nat.or_lt_two_pow (n := 3) l12 s3
  have k2 : ((t1 ||| t2) ||| t3).testBit 2 = (D (X c)).testBit 1 := by
    rw [Nat.testBit_or, Nat.testBit_or]
    exact M _ _ _ _ (fun q => ⟨J _ _ a1 q, J _ _ a2 q, J _ _ a3 q⟩) (fun q => Or.inl (g1.trans q))
  have k1 : ((t1 ||| t2) ||| t3).testBit 1 = (D (Y c)).testBit 1 := by
    rw [Nat.testBit_or, Nat.testBit_or]
    exact M _ _ _ _ (fun q => ⟨J _ _ b1 q, J _ _ b2 q, J _ _ b3 q⟩) (fun q => Or.inr (Or.inl (g2.trans q)))
  have k0 : ((t1 ||| t2) ||| t3).testBit 0 = (D (Z c)).testBit 1 := by
    rw [Nat.testBit_or, Nat.testBit_or]
    exact M _ _ _ _ (fun q => ⟨J _ _ d1 q, J _ _ d2 q, J _ _ d3 q⟩) (fun q => Or.inr (Or.inr (g3.trans q)))
  show (tb c).testBit (rn_tri ((D (X c)).testBit 1) ((D (Y c)).testBit 1) ((D (Z c)).testBit 1)) = true
  rw [← k2, ← k1, ← k0, rn_tri_of _ l]
  exact hm c hc _ l12 _ s3 (hm c hc _ s1 _ s2 m1 m2) m3
/-- how many domains hold both values -/
def rn_op (D : Nat → Nat) : Nat → Nat
  | 0 => 0
  | k + 1 => rn_op D k + (if D k = 3 then 1 else 0)
theorem rn_op_le (D : Nat → Nat) : ∀ k, rn_op D k ≤ k := by
  intro k
  induction k with
  | zero => exact Nat.le_refl _
  | succ k ih => unfold rn_op; split <;> omega
theorem rn_op_mono {D D' : Nat → Nat} : ∀ k, (∀ v, v < k → D' v = 3 → D v = 3) → rn_op D' k ≤ rn_op D k := by
  intro k
  induction k with
  | zero => exact fun _ => Nat.le_refl _
  | succ k ih =>
    intro h
    have h1 := ih (fun v hv => h v (by omega))
    have h2 := h k (by omega)
    unfold rn_op
    by_cases a : D' k = 3
    · rw [if_pos a, if_pos (h2 a)]; omega
    · rw [if_neg a]; omega
theorem rn_op_lt {D D' : Nat → Nat} {v : Nat} : ∀ k, (∀ v, v < k → D' v = 3 → D v = 3) → v < k → D v = 3 → D' v ≠ 3 → rn_op D' k < rn_op D k := by
  intro k
  induction k with
  | zero => exact fun _ h => absurd h (by omega)
  | succ k ih =>
    intro h hv h3 h4
    have h2 := h k (by omega)
    by_cases e : v = k
    · subst e
      have h1 := rn_op_mono (D := D) (D' := D') v (fun w hw => h w (by omega))
      unfold rn_op
      rw [if_neg h4, if_pos h3]; omega
    · have h1 := ih (fun w hw => h w (by omega)) (by omega) h3 h4
      unfold rn_op
      by_cases a : D' k = 3
      · rw [if_pos a, if_pos (h2 a)]; omega
      · rw [if_neg a]; omega
theorem rn_op_0 {D : Nat → Nat} : ∀ k, rn_op D k = 0 → ∀ v, v < k → D v ≠ 3 := by
  intro k
  induction k with
  | zero => exact fun _ v hv => absurd hv (by omega)
  | succ k ih =>
    intro h v hv
    unfold rn_op at h
    by_cases a : D k = 3
    · rw [if_pos a] at h; omega
    · by_cases e : v = k
      · rw [e]; exact a
      · exact ih (by omega) v (by omega)
/-- D' came of D by sound narrowing -/
def rn_Le (n : Nat) (A : Nat → Prop) (tb X Y Z D D' : Nat → Nat) : Prop :=
  rn_Ne n D' ∧ rn_Sub n D' D ∧ ∀ e, rn_Sol n A tb X Y Z D e → rn_Sol n A tb X Y Z D' e
theorem rn_le_op {n : Nat} {A : Nat → Prop} {tb X Y Z D D' : Nat → Nat} (hn : rn_Ne n D) (h : rn_Le n A tb X Y Z D D') : rn_op D' n ≤ rn_op D n :=
  rn_op_mono n (fun v hv => (rn_sub3 _ (hn v hv).1 _ (h.1 v hv).1 (h.2.1 v hv)).1)
theorem rn_le_iff {n : Nat} {A : Nat → Prop} {tb X Y Z D D' : Nat → Nat} (h : rn_Le n A tb X Y Z D D') (e : Nat → Bool) : rn_Sol n A tb X Y Z D e ↔ rn_Sol n A tb X Y Z D' e :=
  ⟨h.2.2 e, rn_sub_sol h.2.1⟩
theorem rn_le_rf {n : Nat} {A : Nat → Prop} {tb X Y Z D : Nat → Nat} (h : rn_Ne n D) : rn_Le n A tb X Y Z D D := ⟨h, fun _ _ _ q => q, fun _ q => q⟩
theorem rn_le_tr {n : Nat} {A : Nat → Prop} {tb X Y Z D D' D'' : Nat → Nat} (h : rn_Le n A tb X Y Z D D') (h' : rn_Le n A tb X Y Z D' D'') : rn_Le n A tb X Y Z D D'' :=
  ⟨h'.1, fun v hv b q => h.2.1 v hv b (h'.2.1 v hv b q), fun e q => h'.2.2 e (h.2.2 e q)⟩
/-- one narrowing -/
theorem rn_nar_le {n : Nat} {A : Nat → Prop} {tb X Y Z D D' : Nat → Nat} {c t : Nat} (hV : rn_Vars n A X Y Z) (hc : A c) (hn : rn_Ne n D) (h4 : ∀ v, v < n → D' v < 4)
    (h : rn_Nar D D' (X c) (Y c) (Z c) (tb c)) (f : rn_Fit D (X c) (Y c) (Z c) (tb c) t) : rn_Le n A tb X Y Z D D' := by
  obtain ⟨hx, hy, hz⟩ := hV c hc
  refine ⟨fun v hv => ⟨h4 v hv, (rn_ne4 _ (h4 v hv)).mpr (rn_nar_ne h f v ((rn_ne4 _ (hn v hv).1).mp (hn v hv).2))⟩, fun v _ b q => ((h v b).mp q).1, fun e he => ⟨(rn_nar_sol h hx hy hz he.1 (he.2 c hc)).1, he.2⟩⟩
theorem rn_nar_no {n : Nat} {A : Nat → Prop} {tb X Y Z D D' : Nat → Nat} {c : Nat} (hV : rn_Vars n A X Y Z) (hc : A c)
    (h : rn_Nar D D' (X c) (Y c) (Z c) (tb c)) (f : ∀ t, ¬ rn_Fit D (X c) (Y c) (Z c) (tb c) t) (e : Nat → Bool) : ¬ rn_Sol n A tb X Y Z D e := by
  obtain ⟨hx, hy, hz⟩ := hV c hc
  exact fun he => f _ (rn_nar_sol h hx hy hz he.1 (he.2 c hc)).2
end
section
/-! implications between literals: closure, the two-literal theorem, Warshall's stages -/
def rs_ng (p : Nat) : Nat := if p % 2 = 0 then p + 1 else p - 1
theorem rs_ng_ng (p : Nat) : rs_ng (rs_ng p) = p := by
  unfold rs_ng
  by_cases h : p % 2 = 0
  · rw [if_pos h, if_neg (by omega)]; omega
  · rw [if_neg h, if_pos (by omega)]; omega
theorem rs_ng_x : ∀ p, p < 16 → p ^^^ 1 = rs_ng p := by decide +kernel
theorem rs_ng_e (v : Nat) : rs_ng (2 * v) = 2 * v + 1 := by unfold rs_ng; rw [if_pos (by omega)]
theorem rs_ng_o (v : Nat) : rs_ng (2 * v + 1) = 2 * v := by unfold rs_ng; rw [if_neg (by omega)]; omega
theorem rs_ng_iff (a b : Nat) : rs_ng a = b ↔ a = rs_ng b := by
  constructor
  · intro h; rw [← h, rs_ng_ng]
  · intro h; rw [h, rs_ng_ng]
theorem rs_ng_lt {p n : Nat} (h : p < 2 * n) : rs_ng p < 2 * n := by unfold rs_ng; split <;> omega
/-- literal 2 v + b holds at e -/
def rs_tr (e : Nat → Bool) (p : Nat) : Prop := (e (p / 2)).toNat = p % 2
theorem rs_tr_ng (e : Nat → Bool) (p : Nat) : rs_tr e (rs_ng p) ↔ ¬ rs_tr e p := by
  unfold rs_tr rs_ng
  have hb := rb_lt (e (p / 2))
  by_cases h : p % 2 = 0
  · rw [if_pos h, show (p + 1) / 2 = p / 2 by omega]; omega
  · rw [if_neg h, show (p - 1) / 2 = p / 2 by omega]; omega
theorem rs_tr_l (e : Nat → Bool) (v : Nat) (b : Bool) : rs_tr e (2 * v + b.toNat) ↔ e v = b := by
  unfold rs_tr
  have hb := rb_lt b
  rw [show (2 * v + b.toNat) / 2 = v by omega, show (2 * v + b.toNat) % 2 = b.toNat by omega]
  exact ⟨rb_inj, fun h => by rw [h]⟩
def rs_RT (E : Nat → Nat → Prop) (p q : Nat) : Prop := ∀ S : Nat → Prop, S p → (∀ a b, S a → E a b → S b) → S q
theorem rs_rf {E : Nat → Nat → Prop} (p : Nat) : rs_RT E p p := fun _ h _ => h
theorem rs_trans {E : Nat → Nat → Prop} {p q r : Nat} (h : rs_RT E p q) (g : rs_RT E q r) : rs_RT E p r := fun S hp hc => g S (h S hp hc) hc
theorem rs_edge {E : Nat → Nat → Prop} {p q : Nat} (h : E p q) : rs_RT E p q := fun _ hp hc => hc _ _ hp h
theorem rs_skew {E : Nat → Nat → Prop} {p q : Nat} (hs : ∀ a b, E a b → E (rs_ng b) (rs_ng a)) (h : rs_RT E p q) : rs_RT E (rs_ng q) (rs_ng p) :=
  h (fun b => rs_RT E (rs_ng b) (rs_ng p)) (rs_rf _) (fun _ _ ha he => rs_trans (rs_edge (hs _ _ he)) ha)
/-- a closed consistent set grows by one variable -/
theorem rs_grow {E : Nat → Nat → Prop} {n : Nat} (hs : ∀ a b, E a b → E (rs_ng b) (rs_ng a))
    (hv : ∀ v, v < n → ¬ (rs_RT E (2 * v) (2 * v + 1) ∧ rs_RT E (2 * v + 1) (2 * v))) : ∀ k, k ≤ n →
    ∃ S : Nat → Prop, (∀ a b, S a → E a b → S b) ∧ (∀ a, S a → S (rs_ng a) → False) ∧ (∀ v, v < k → S (2 * v) ∨ S (2 * v + 1)) := by
  intro k
  induction k with
  | zero => exact fun _ => ⟨fun _ => False, fun _ _ h => h.elim, fun _ h => h.elim, fun v hv => absurd hv (by omega)⟩
  | succ k ih =>
    intro hk
    obtain ⟨S, hc, hn, hd⟩ := ih (by omega)
    by_cases hK : S (2 * k) ∨ S (2 * k + 1)
    · exact ⟨S, hc, hn, fun v hv => if e : v = k then by rw [e]; exact hK else hd v (by omega)⟩
    · have hp : ∃ p, (p = 2 * k ∨ p = 2 * k + 1) ∧ ¬ rs_RT E p (rs_ng p) ∧ ¬ S (rs_ng p) := by
        by_cases h1 : rs_RT E (2 * k) (2 * k + 1)
        · refine ⟨2 * k + 1, Or.inr rfl, ?_, ?_⟩
          · rw [rs_ng_o]; exact fun h2 => hv k (by omega) ⟨h1, h2⟩
          · rw [rs_ng_o]; exact fun h2 => hK (Or.inl h2)
        · refine ⟨2 * k, Or.inl rfl, ?_, ?_⟩
          · rw [rs_ng_e]; exact h1
          · rw [rs_ng_e]; exact fun h2 => hK (Or.inr h2)
      obtain ⟨p, pk, p1, p2⟩ := hp
      have sr : ∀ a b, S a → rs_RT E a b → S b := fun a b ha hr => hr S ha hc
      refine ⟨fun a => S a ∨ rs_RT E p a, ?_, ?_, ?_⟩
      · intro a b ha he
        rcases ha with ha | ha
        · exact Or.inl (hc a b ha he)
        · exact Or.inr (rs_trans ha (rs_edge he))
      · intro a ha hb
        rcases ha with ha | ha
        · rcases hb with hb | hb
          · exact hn a ha hb
          · have h := rs_skew hs hb
            rw [rs_ng_ng] at h
            exact p2 (sr _ _ ha h)
        · rcases hb with hb | hb
          · exact p2 (sr _ _ hb (rs_skew hs ha))
          · have h := rs_skew hs hb
            rw [rs_ng_ng] at h
            exact p1 (rs_trans ha h)
      · intro v hv'
        by_cases e : v = k
        · rw [e]
          rcases pk with h | h
          · exact Or.inl (Or.inr (by rw [← h]; exact rs_rf p))
          · exact Or.inr (Or.inr (by rw [← h]; exact rs_rf p))
        · rcases hd v (by omega) with h | h
          · exact Or.inl (Or.inl h)
          · exact Or.inr (Or.inl h)
/-- no forbidden pair holds at e -/
def rs_Ok (F : Nat → Nat → Prop) (e : Nat → Bool) : Prop := ∀ a b, F a b → ¬ (rs_tr e a ∧ rs_tr e b)
theorem rs_two {F : Nat → Nat → Prop} {n : Nat} (hF : ∀ a b, F a b → F b a) (hr : ∀ a b, F a b → a < 2 * n ∧ b < 2 * n) :
    (∃ e, rs_Ok F e) ↔ ∀ v, v < n → ¬ (rs_RT (fun p q => F p (rs_ng q)) (2 * v) (2 * v + 1) ∧ rs_RT (fun p q => F p (rs_ng q)) (2 * v + 1) (2 * v)) := by
  constructor
  · rintro ⟨e, he⟩ v _ ⟨h1, h2⟩
    have cl : ∀ a b, rs_tr e a → F a (rs_ng b) → rs_tr e b := by
      intro a b ha hf
      refine Classical.byContradiction fun hb => he _ _ hf ⟨ha, (rs_tr_ng e b).mpr hb⟩
    have i1 := h1 (rs_tr e)
    have i2 := h2 (rs_tr e)
    have t0 := rs_tr_l e v false
    have t1 := rs_tr_l e v true
    have t0' : rs_tr e (2 * v) ↔ e v = false := t0
    have t1' : rs_tr e (2 * v + 1) ↔ e v = true := t1
    cases hb : e v
    · have := t1'.mp (i1 (t0'.mpr hb) cl)
      rw [hb] at this; exact absurd this (by decide)
    · have := t0'.mp (i2 (t1'.mpr hb) cl)
      rw [hb] at this; exact absurd this (by decide)
  · intro hv
    obtain ⟨S, hc, hn, hd⟩ := rs_grow (E := fun p q => F p (rs_ng q)) (n := n) (fun a b h => by
      have h' : F (rs_ng b) a := hF _ _ h
      show F (rs_ng b) (rs_ng (rs_ng a))
      rw [rs_ng_ng]; exact h') hv n (Nat.le_refl n)
    refine ⟨fun v => @decide (S (2 * v + 1)) (Classical.propDecidable _), ?_⟩
    have key : ∀ a, a < 2 * n → rs_tr (fun v => @decide (S (2 * v + 1)) (Classical.propDecidable _)) a → S a := by
      intro a ha ht
      unfold rs_tr at ht
      by_cases hs : S (2 * (a / 2) + 1)
      · have : (@decide (S (2 * (a / 2) + 1)) (Classical.propDecidable _)).toNat = 1 := by
          rw [@decide_eq_true _ (Classical.propDecidable _) hs]; rfl
        rw [this] at ht
        rw [show a = 2 * (a / 2) + 1 by omega]; exact hs
      · have : (@decide (S (2 * (a / 2) + 1)) (Classical.propDecidable _)).toNat = 0 := by
          rw [@decide_eq_false _ (Classical.propDecidable _) hs]; rfl
        rw [this] at ht
        rcases hd (a / 2) (by omega) with h | h
        · rw [show a = 2 * (a / 2) by omega]; exact h
        · exact absurd h hs
    rintro a b hab ⟨ha, hb⟩
    obtain ⟨la, lb⟩ := hr a b hab
    refine hn b (key b lb hb) (hc a (rs_ng b) (key a la ha) ?_)
    show F a (rs_ng (rs_ng b))
    rw [rs_ng_ng]; exact hab
/-- the matrix M (below 16) holds what E reaches, no more; and is transitive at the middles below m -/
def rs_War (E : Nat → Nat → Prop) (M : Nat → Nat → Prop) (m : Nat) : Prop :=
  (∀ k, k < 16 → M k k) ∧ (∀ k l, E k l → M k l) ∧ (∀ k l, k < 16 → l < 16 → M k l → rs_RT E k l)
  ∧ (∀ a, a < m → ∀ k l, k < 16 → l < 16 → M k a → M a l → M k l)
/-- one stage -/
def rs_stage (M : Nat → Nat → Prop) (m : Nat) (k l : Nat) : Prop := M k l ∨ (M k m ∧ M m l)
theorem rs_war_s {E M : Nat → Nat → Prop} {m : Nat} (hm : m < 16) (h : rs_War E M m) : rs_War E (rs_stage M m) (m + 1) := by
  obtain ⟨h1, h2, h3, h4⟩ := h
  refine ⟨fun k hk => Or.inl (h1 k hk), fun k l e => Or.inl (h2 k l e), ?_, ?_⟩
  · intro k l hk hl h
    rcases h with h | ⟨h, h'⟩
    · exact h3 k l hk hl h
    · exact rs_trans (h3 k m hk hm h) (h3 m l hm hl h')
  · intro a ha k l hk hl p q
    by_cases e : a = m
    · subst e
      have p' : M k a := p.elim id (fun h => h.1)
      have q' : M a l := q.elim id (fun h => h.2)
      exact Or.inr ⟨p', q'⟩
    · have ha' : a < m := by omega
      rcases p with p | ⟨p, p'⟩
      · rcases q with q | ⟨q, q'⟩
        · exact Or.inl (h4 a ha' k l hk hl p q)
        · exact Or.inr ⟨h4 a ha' k m hk hm p q, q'⟩
      · rcases q with q | ⟨q, q'⟩
        · exact Or.inr ⟨p, h4 a ha' m l hm hl p' q⟩
        · exact Or.inr ⟨p, q'⟩
theorem rs_war_end {E M : Nat → Nat → Prop} (hE : ∀ k l, E k l → l < 16) (h : rs_War E M 16) {k l : Nat} (hk : k < 16) (hl : l < 16) : M k l ↔ rs_RT E k l := by
  obtain ⟨h1, h2, h3, h4⟩ := h
  refine ⟨h3 k l hk hl, fun g => (g (fun a => a < 16 ∧ M k a) ⟨hk, h1 k hk⟩ ?_).2⟩
  rintro a b ⟨ha, hm⟩ e
  exact ⟨hE a b e, h4 a ha k b hk (hE a b e) hm (h2 a b e)⟩
theorem rs_war_0 {E : Nat → Nat → Prop} : rs_War E (fun k l => l = k ∨ E k l) 0 := by
  refine ⟨fun k _ => Or.inl rfl, fun k l e => Or.inr e, ?_, fun a ha => absurd ha (by omega)⟩
  intro k l _ _ h
  rcases h with h | h
  · rw [h]; exact rs_rf k
  · exact rs_edge h
end
section
/-! counting assignments; rows modulo two -/
noncomputable def rc_b (p : Prop) : Nat := @ite Nat p (Classical.propDecidable p) 1 0
theorem rc_t {p : Prop} (h : p) : rc_b p = 1 := @if_pos p (Classical.propDecidable p) h Nat 1 0
theorem rc_f {p : Prop} (h : ¬ p) : rc_b p = 0 := @if_neg p (Classical.propDecidable p) h Nat 1 0
theorem rc_bc {p q : Prop} (h : p ↔ q) : rc_b p = rc_b q := by rw [propext h]
def rc_set (e : Nat → Bool) (k : Nat) (b : Bool) : Nat → Bool := fun v => if v = k then b else e v
theorem rc_set_s (e : Nat → Bool) (k : Nat) (b : Bool) : rc_set e k b k = b := if_pos rfl
theorem rc_set_n (e : Nat → Bool) {k v : Nat} (b : Bool) (h : v ≠ k) : rc_set e k b v = e v := if_neg h
/-- assignments of the variables below k (the others as in e) with P -/
noncomputable def rc_ct (P : (Nat → Bool) → Prop) : Nat → (Nat → Bool) → Nat
  | 0, e => rc_b (P e)
  | k + 1, e => rc_ct P k (rc_set e k false) + rc_ct P k (rc_set e k true)
theorem rc_ct_c {P Q : (Nat → Bool) → Prop} (h : ∀ e, P e ↔ Q e) (k : Nat) (e : Nat → Bool) : rc_ct P k e = rc_ct Q k e := by
  rw [show P = Q from funext fun e => propext (h e)]
theorem rc_ct_0 {P : (Nat → Bool) → Prop} (h : ∀ e, ¬ P e) : ∀ k e, rc_ct P k e = 0 := by
  intro k
  induction k with
  | zero => exact fun e => rc_f (h e)
  | succ k ih => intro e; unfold rc_ct; rw [ih, ih]
theorem rc_ct_add {P Q R : (Nat → Bool) → Prop} (h : ∀ e, P e ↔ Q e ∨ R e) (hd : ∀ e, Q e → R e → False) : ∀ k e, rc_ct P k e = rc_ct Q k e + rc_ct R k e := by
  intro k
  induction k with
  | zero =>
    intro e
    show rc_b (P e) = rc_b (Q e) + rc_b (R e)
    by_cases q : Q e
    · rw [rc_t ((h e).mpr (Or.inl q)), rc_t q, rc_f (hd e q)]
    · by_cases r : R e
      · rw [rc_t ((h e).mpr (Or.inr r)), rc_f q, rc_t r]
      · rw [rc_f (fun p => ((h e).mp p).elim q r), rc_f q, rc_f r]
  | succ k ih => intro e; unfold rc_ct; rw [ih, ih]; omega
theorem rc_ct_1 {n : Nat} {a : Nat → Bool} : ∀ k, k ≤ n → ∀ e : Nat → Bool,
    ((∀ v, k ≤ v → v < n → e v = a v) → rc_ct (fun e => ∀ v, v < n → e v = a v) k e = 1)
    ∧ ((¬ ∀ v, k ≤ v → v < n → e v = a v) → rc_ct (fun e => ∀ v, v < n → e v = a v) k e = 0) := by
  intro k
  induction k with
  | zero =>
    exact fun _ e => ⟨fun h => rc_t (p := ∀ v, v < n → e v = a v) (fun v hv => h v (by omega) hv), fun h => rc_f (p := ∀ v, v < n → e v = a v) (fun q => h (fun v _ hv => q v hv))⟩
  | succ k ih =>
    intro hk e
    have i0 := ih (by omega) (rc_set e k false)
    have i1 := ih (by omega) (rc_set e k true)
    have st : ∀ b : Bool, (∀ v, k ≤ v → v < n → rc_set e k b v = a v) ↔ (b = a k ∧ ∀ v, k + 1 ≤ v → v < n → e v = a v) := by
      intro b
      constructor
      · intro h
        refine ⟨by rw [← h k (by omega) (by omega), rc_set_s], fun v h1 h2 => ?_⟩
        rw [← h v (by omega) h2, rc_set_n _ _ (by omega)]
      · rintro ⟨h, g⟩ v h1 h2
        by_cases ev : v = k
        · rw [ev, rc_set_s, h]
        · rw [rc_set_n _ _ ev]; exact g v (by omega) h2
    rw [st] at i0 i1
    unfold rc_ct
    constructor
    · intro h
      cases ha : a k
      · rw [i0.1 ⟨ha.symm, h⟩, i1.2 (fun q => by rw [ha] at q; exact absurd q.1 (by decide))]
      · rw [i1.1 ⟨ha.symm, h⟩, i0.2 (fun q => by rw [ha] at q; exact absurd q.1 (by decide))]
    · intro h
      rw [i0.2 (fun q => h q.2), i1.2 (fun q => h q.2)]
theorem rc_ct_one {P : (Nat → Bool) → Prop} {n : Nat} {a : Nat → Bool} (h : ∀ e, P e ↔ ∀ v, v < n → e v = a v) (e : Nat → Bool) : rc_ct P n e = 1 := by
  rw [rc_ct_c h]
  exact (rc_ct_1 n (Nat.le_refl n) e).1 (fun v h1 h2 => by omega)
theorem rc_ct_le (P : (Nat → Bool) → Prop) : ∀ k e, rc_ct P k e ≤ 2 ^ k := by
  intro k
  induction k with
  | zero =>
    intro e
    show rc_b (P e) ≤ 1
    by_cases h : P e
    · rw [rc_t h]; exact Nat.le_refl 1
    · rw [rc_f h]; omega
  | succ k ih =>
    intro e
    have h0 := ih (rc_set e k false)
    have h1 := ih (rc_set e k true)
    unfold rc_ct
    rw [Nat.pow_succ]; omega
theorem rc_ct_ex {P : (Nat → Bool) → Prop} : ∀ k e, 0 < rc_ct P k e → ∃ e', P e' := by
  intro k
  induction k with
  | zero =>
    intro e h
    refine Classical.byContradiction fun q => ?_
    have : rc_b (P e) = 0 := rc_f (fun p => q ⟨e, p⟩)
    have h' : 0 < rc_b (P e) := h
    omega
  | succ k ih =>
    intro e h
    unfold rc_ct at h
    by_cases h0 : 0 < rc_ct P k (rc_set e k false)
    · exact ih _ h0
    · exact ih _ (by omega : 0 < rc_ct P k (rc_set e k true))
theorem rc_ct_pos {P : (Nat → Bool) → Prop} {n : Nat} (hc : ∀ e e', (∀ v, v < n → e v = e' v) → P e → P e') {a : Nat → Bool} (ha : P a) :
    ∀ k, k ≤ n → ∀ e : Nat → Bool, (∀ v, k ≤ v → v < n → e v = a v) → 0 < rc_ct P k e := by
  intro k
  induction k with
  | zero =>
    intro _ e h
    have : rc_b (P e) = 1 := rc_t (hc a e (fun v hv => (h v (by omega) hv).symm) ha)
    show 0 < rc_b (P e)
    omega
  | succ k ih =>
    intro hk e h
    have key : ∀ b, b = a k → 0 < rc_ct P k (rc_set e k b) := by
      intro b hb
      refine ih (by omega) _ (fun v h1 h2 => ?_)
      by_cases ev : v = k
      · rw [ev, rc_set_s, hb]
      · rw [rc_set_n _ _ ev]; exact h v (by omega) h2
    unfold rc_ct
    cases ha' : a k
    · have := key false ha'.symm; omega
    · have := key true ha'.symm; omega
/-- how many numbers below k have P -/
noncomputable def rc_cn (P : Nat → Prop) : Nat → Nat
  | 0 => 0
  | k + 1 => rc_cn P k + rc_b (P k)
theorem rc_cn_le (P : Nat → Prop) : ∀ k, rc_cn P k ≤ k := by
  intro k
  induction k with
  | zero => exact Nat.le_refl 0
  | succ k ih =>
    unfold rc_cn
    by_cases h : P k
    · rw [rc_t h]; omega
    · rw [rc_f h]; omega
theorem rc_cn_c {P Q : Nat → Prop} : ∀ k, (∀ i, i < k → (P i ↔ Q i)) → rc_cn P k = rc_cn Q k := by
  intro k
  induction k with
  | zero => exact fun _ => rfl
  | succ k ih =>
    intro h
    unfold rc_cn
    rw [ih (fun i hi => h i (by omega)), rc_bc (h k (by omega))]
theorem rc_cn_add (P : Nat → Prop) (a : Nat) : ∀ b, rc_cn P (a + b) = rc_cn P a + rc_cn (fun i => P (a + i)) b := by
  intro b
  induction b with
  | zero => rfl
  | succ b ih =>
    show rc_cn P (a + b) + rc_b (P (a + b)) = rc_cn P a + (rc_cn (fun i => P (a + i)) b + rc_b (P (a + b)))
    omega
theorem rc_link_k {P : (Nat → Bool) → Prop} {n : Nat} (hc : ∀ e e', (∀ v, v < n → e v = e' v) → P e → P e') : ∀ k, k ≤ n → ∀ (q : Nat) (e : Nat → Bool),
    (∀ v, k ≤ v → v < n → e v = q.testBit (v - k)) → rc_ct P k e = rc_cn (fun i => P (fun v => (q * 2 ^ k + i).testBit v)) (2 ^ k) := by
  intro k
  induction k with
  | zero =>
    intro _ q e h
    show rc_b (P e) = 0 + rc_b (P (fun v => (q * 2 ^ 0 + 0).testBit v))
    rw [Nat.zero_add]
    have ag : ∀ v, v < n → e v = (q * 2 ^ 0 + 0).testBit v := by
      intro v hv
      rw [h v (by omega) hv, Nat.pow_zero, Nat.mul_one, Nat.add_zero, Nat.sub_zero]
    exact rc_bc ⟨hc _ _ ag, hc _ _ (fun v hv => (ag v hv).symm)⟩
  | succ k ih =>
    intro hk q e h
    have bit : ∀ (b : Bool) v, k ≤ v → v < n → rc_set e k b v = (2 * q + b.toNat).testBit (v - k) := by
      intro b v h1 h2
      by_cases ev : v = k
      · rw [ev, rc_set_s, Nat.sub_self, Nat.testBit_zero]
        cases b
        · rw [decide_eq_false]
          show ¬ (2 * q + 0) % 2 = 1
          omega
        · rw [decide_eq_true]
          show (2 * q + 1) % 2 = 1
          omega
      · have hb := rb_lt b
        rw [rc_set_n _ _ ev, h v (by omega) h2, show v - k = (v - (k + 1)) + 1 by omega, Nat.testBit_add_one, show (2 * q + b.toNat) / 2 = q by omega]
    have i0 := ih (by omega) (2 * q + false.toNat) (rc_set e k false) (bit false)
    have i1 := ih (by omega) (2 * q + true.toNat) (rc_set e k true) (bit true)
    unfold rc_ct
    rw [i0, i1, show (2 : Nat) ^ (k + 1) = 2 ^ k + 2 ^ k by rw [Nat.pow_succ]; omega, rc_cn_add]
    have z0 : (2 * q + false.toNat) * 2 ^ k = q * (2 ^ k + 2 ^ k) := by
      show (2 * q + 0) * 2 ^ k = _
      rw [Nat.add_zero, Nat.mul_add, Nat.mul_assoc, ← Nat.two_mul]
    have z1 : ∀ i, (2 * q + true.toNat) * 2 ^ k + i = q * (2 ^ k + 2 ^ k) + (2 ^ k + i) := by
      intro i
      show (2 * q + 1) * 2 ^ k + i = _
      rw [Nat.add_mul, Nat.one_mul, Nat.mul_add, Nat.mul_assoc, ← Nat.two_mul]; omega
    rw [z0]
    refine congrArg _ (rc_cn_c _ (fun i _ => ?_))
    rw [z1 i]
theorem rc_link {P : (Nat → Bool) → Prop} {n : Nat} (hc : ∀ e e', (∀ v, v < n → e v = e' v) → P e → P e') (e : Nat → Bool) :
    rc_ct P n e = rc_cn (fun i => P (fun v => i.testBit v)) (2 ^ n) := by
  rw [rc_link_k hc n (Nat.le_refl n) 0 e (fun v h1 h2 => by omega)]
  refine rc_cn_c _ (fun i _ => ?_)
  rw [Nat.zero_mul, Nat.zero_add]
/-- e's number -/
def rc_nm (e : Nat → Bool) : Nat → Nat
  | 0 => 0
  | k + 1 => 2 ^ k * (e k).toNat + rc_nm e k
theorem rc_nm_lt (e : Nat → Bool) : ∀ k, rc_nm e k < 2 ^ k := by
  intro k
  induction k with
  | zero => exact Nat.one_pos
  | succ k ih =>
    have hb := rb_lt (e k)
    unfold rc_nm
    rw [Nat.pow_succ]
    have : 2 ^ k * (e k).toNat ≤ 2 ^ k * 1 := Nat.mul_le_mul_left _ (by omega)
    omega
theorem rc_nm_b (e : Nat → Bool) : ∀ k v, v < k → (rc_nm e k).testBit v = e v := by
  intro k
  induction k with
  | zero => exact fun v hv => absurd hv (by omega)
  | succ k ih =>
    intro v hv
    unfold rc_nm
    rw [Nat.testBit_two_pow_mul_add _ (rc_nm_lt e k)]
    by_cases h : v < k
    · rw [if_pos h]; exact ih v h
    · rw [if_neg h, show v = k by omega, Nat.sub_self]
      cases e k <;> decide
theorem rc_ex {P : (Nat → Bool) → Prop} {n : Nat} (hc : ∀ e e', (∀ v, v < n → e v = e' v) → P e → P e') : (∃ e, P e) ↔ ∃ m, m < 2 ^ n ∧ P (fun v => m.testBit v) :=
  ⟨fun ⟨e, h⟩ => ⟨rc_nm e n, rc_nm_lt e n, hc _ _ (fun v hv => (rc_nm_b e n v hv).symm) h⟩, fun ⟨_, _, h⟩ => ⟨_, h⟩⟩
end
section
/-! rows modulo two: parities, echelon rows, the count; affine tables -/
def ra_pr (row : Nat) (e : Nat → Bool) : Nat → Bool
  | 0 => false
  | k + 1 => ra_pr row e k ^^ (row.testBit k && e k)
theorem ra_pr_xor (a b : Nat) (e : Nat → Bool) : ∀ k, ra_pr (a ^^^ b) e k = (ra_pr a e k ^^ ra_pr b e k) := by
  intro k
  induction k with
  | zero => rfl
  | succ k ih =>
    unfold ra_pr
    rw [ih, Nat.testBit_xor]
    cases ra_pr a e k <;> cases ra_pr b e k <;> cases a.testBit k <;> cases b.testBit k <;> cases e k <;> rfl
theorem ra_pr_z {row : Nat} {e : Nat → Bool} : ∀ k, (∀ j, j < k → row.testBit j = false) → ra_pr row e k = false := by
  intro k
  induction k with
  | zero => exact fun _ => rfl
  | succ k ih =>
    intro h
    unfold ra_pr
    rw [ih (fun j hj => h j (by omega)), h k (by omega)]
    rfl
theorem ra_pr_cg {row : Nat} {e e' : Nat → Bool} : ∀ k, (∀ j, j < k → row.testBit j = true → e j = e' j) → ra_pr row e k = ra_pr row e' k := by
  intro k
  induction k with
  | zero => exact fun _ => rfl
  | succ k ih =>
    intro h
    unfold ra_pr
    rw [ih (fun j hj => h j (by omega))]
    cases hb : row.testBit k
    · rw [Bool.false_and, Bool.false_and]
    · rw [h k (by omega) hb]
theorem ra_pr_row {a b : Nat} {e : Nat → Bool} : ∀ k, (∀ j, j < k → a.testBit j = b.testBit j) → ra_pr a e k = ra_pr b e k := by
  intro k
  induction k with
  | zero => exact fun _ => rfl
  | succ k ih =>
    intro h
    unfold ra_pr
    rw [ih (fun j hj => h j (by omega)), h k (by omega)]
theorem ra_pr_pow {x : Nat} {e : Nat → Bool} : ∀ k, x < k → ra_pr (2 ^ x) e k = e x := by
  intro k
  induction k with
  | zero => exact fun h => absurd h (by omega)
  | succ k ih =>
    intro h
    unfold ra_pr
    by_cases hx : x = k
    · subst hx
      rw [ra_pr_z x (fun j hj => Nat.testBit_two_pow_of_ne (by omega)), Nat.testBit_two_pow_self, Bool.true_and, Bool.false_xor]
    · rw [ih (by omega), Nat.testBit_two_pow_of_ne hx, Bool.false_and, Bool.xor_false]
theorem ra_pr_flip {row k : Nat} {e : Nat → Bool} (hk : row.testBit k = true) : ∀ j, k < j → ra_pr row (rc_set e k true) j = !(ra_pr row (rc_set e k false) j) := by
  intro j
  induction j with
  | zero => exact fun h => absurd h (by omega)
  | succ j ih =>
    intro h
    unfold ra_pr
    by_cases hj : k = j
    · subst hj
      rw [ra_pr_cg (e' := rc_set e k false) k (fun i hi _ => by rw [rc_set_n _ _ (by omega), rc_set_n _ _ (by omega)]), rc_set_s, rc_set_s, hk]
      cases ra_pr row (rc_set e k false) k <;> rfl
    · rw [ih (by omega), rc_set_n _ _ (by omega), rc_set_n _ _ (by omega)]
      cases ra_pr row (rc_set e k false) j <;> cases row.testBit j <;> cases e j <;> rfl
def ra_RS (n row : Nat) (e : Nat → Bool) : Prop := ra_pr row e n = row.testBit 8
def ra_Shp (n row : Nat) : Prop := row < 512 ∧ ∀ j, n ≤ j → j ≠ 8 → row.testBit j = false
def ra_Ech (n : Nat) (R : Nat → Nat) : Prop := ∀ v, v < n → R v = 0 ∨ ((R v).testBit v = true ∧ (∀ j, j < v → (R v).testBit j = false) ∧ ra_Shp n (R v))
def ra_All (n : Nat) (R : Nat → Nat) (e : Nat → Bool) : Prop := ∀ v, v < n → ra_RS n (R v) e
def ra_rk (R : Nat → Nat) : Nat → Nat
  | 0 => 0
  | k + 1 => ra_rk R k + (if R k = 0 then 0 else 1)
theorem ra_rk_le (R : Nat → Nat) : ∀ k, ra_rk R k ≤ k := by
  intro k
  induction k with
  | zero => exact Nat.le_refl 0
  | succ k ih => unfold ra_rk; split <;> omega
theorem ra_rs_0 (n : Nat) (e : Nat → Bool) : ra_RS n 0 e := by
  unfold ra_RS
  rw [ra_pr_z n (fun j _ => Nat.zero_testBit j), Nat.zero_testBit]
theorem ra_rs_xor {n a b : Nat} {e : Nat → Bool} (ha : ra_RS n a e) : ra_RS n (b ^^^ a) e ↔ ra_RS n b e := by
  unfold ra_RS at ha ⊢
  rw [ra_pr_xor, Nat.testBit_xor, ha]
  cases ra_pr b e n <;> cases a.testBit 8 <;> cases b.testBit 8 <;> decide
theorem ra_rs_cg {n row : Nat} {e e' : Nat → Bool} (h : ∀ j, j < n → row.testBit j = true → e j = e' j) : ra_RS n row e ↔ ra_RS n row e' := by
  unfold ra_RS
  rw [ra_pr_cg n h]
theorem ra_all_cg {n : Nat} {R : Nat → Nat} {e e' : Nat → Bool} (h : ∀ j, j < n → e j = e' j) (ha : ra_All n R e) : ra_All n R e' :=
  fun v hv => (ra_rs_cg (fun j hj _ => h j hj)).mp (ha v hv)
theorem ra_ct {n : Nat} {R : Nat → Nat} (hE : ra_Ech n R) : ∀ k, k ≤ n → ∀ e : Nat → Bool,
    ((∀ v, k ≤ v → v < n → ra_RS n (R v) e) → rc_ct (ra_All n R) k e = 2 ^ (k - ra_rk R k))
    ∧ ((¬ ∀ v, k ≤ v → v < n → ra_RS n (R v) e) → rc_ct (ra_All n R) k e = 0) := by
  intro k
  induction k with
  | zero =>
    exact fun _ e => ⟨fun h => rc_t (p := ra_All n R e) (fun v hv => h v (by omega) hv), fun h => rc_f (p := ra_All n R e) (fun q => h (fun v _ hv => q v hv))⟩
  | succ k ih =>
    intro hk e
    have i0 := ih (by omega) (rc_set e k false)
    have i1 := ih (by omega) (rc_set e k true)
    have up : ∀ (b : Bool) v, k + 1 ≤ v → v < n → (ra_RS n (R v) (rc_set e k b) ↔ ra_RS n (R v) e) := by
      intro b v h1 h2
      refine ra_rs_cg (fun j _ hj => ?_)
      rcases hE v h2 with hz | ⟨_, hlo, _⟩
      · rw [hz, Nat.zero_testBit] at hj; exact absurd hj (by decide)
      · by_cases ej : j = k
        · rw [ej, hlo k (by omega)] at hj; exact absurd hj (by decide)
        · exact rc_set_n _ _ ej
    have st : ∀ b : Bool, (∀ v, k ≤ v → v < n → ra_RS n (R v) (rc_set e k b)) ↔ (ra_RS n (R k) (rc_set e k b) ∧ ∀ v, k + 1 ≤ v → v < n → ra_RS n (R v) e) := by
      intro b
      constructor
      · exact fun h => ⟨h k (by omega) (by omega), fun v h1 h2 => (up b v h1 h2).mp (h v (by omega) h2)⟩
      · rintro ⟨h, g⟩ v h1 h2
        by_cases ev : v = k
        · rw [ev]; exact h
        · exact (up b v (by omega) h2).mpr (g v (by omega) h2)
    rw [st] at i0 i1
    have rl := ra_rk_le R k
    unfold rc_ct
    constructor
    · intro h
      rcases hE k (by omega) with hz | ⟨hb, hlo, hs⟩
      · rw [i0.1 ⟨by rw [hz]; exact ra_rs_0 n _, h⟩, i1.1 ⟨by rw [hz]; exact ra_rs_0 n _, h⟩]
        rw [show ra_rk R (k + 1) = ra_rk R k + (if R k = 0 then 0 else 1) from rfl, if_pos hz, show k + 1 - (ra_rk R k + 0) = (k - ra_rk R k) + 1 by omega, Nat.pow_succ]; omega
      · have hnz : R k ≠ 0 := fun z => by rw [z, Nat.zero_testBit] at hb; exact absurd hb (by decide)
        have fl := ra_pr_flip (e := e) hb n (by omega)
        rw [show ra_rk R (k + 1) = ra_rk R k + (if R k = 0 then 0 else 1) from rfl, if_neg hnz, show k + 1 - (ra_rk R k + 1) = k - ra_rk R k by omega]
        by_cases g : ra_RS n (R k) (rc_set e k false)
        · have g1 : ¬ ra_RS n (R k) (rc_set e k true) := by
            unfold ra_RS at g ⊢
            rw [fl, g]
            cases (R k).testBit 8 <;> decide
          rw [i0.1 ⟨g, h⟩, i1.2 (fun q => g1 q.1)]
          omega
        · have g1 : ra_RS n (R k) (rc_set e k true) := by
            unfold ra_RS at g ⊢
            rw [fl]
            revert g
            cases ra_pr (R k) (rc_set e k false) n <;> cases (R k).testBit 8 <;> decide
          rw [i1.1 ⟨g1, h⟩, i0.2 (fun q => g q.1)]
          omega
    · intro h
      rw [i0.2 (fun q => h q.2), i1.2 (fun q => h q.2)]
theorem ra_count {n : Nat} {R : Nat → Nat} (hE : ra_Ech n R) (e : Nat → Bool) : rc_ct (ra_All n R) n e = 2 ^ (n - ra_rk R n) :=
  (ra_ct hE n (Nat.le_refl n) e).1 (fun v h1 h2 => by omega)
theorem ra_sat {n : Nat} {R : Nat → Nat} (hE : ra_Ech n R) : ∃ e, ra_All n R e :=
  rc_ct_ex n (fun _ => false) (by rw [ra_count hE]; exact Nat.two_pow_pos _)
/-- a set of variables with its wanted parity in bit 8 -/
theorem ra_gen {n r k : Nat} (e : Nat → Bool) (hn : n ≤ 8) (hk : k < 2) (hr : ∀ j, n ≤ j → r.testBit j = false) :
    ra_Shp n (r ||| k * 2 ^ 8) ∧ (ra_RS n (r ||| k * 2 ^ 8) e ↔ (ra_pr r e n).toNat = k) := by
  have r9 : r < 2 ^ 9 := Nat.lt_pow_two_of_testBit _ (fun i hi => hr i (by omega))
  have bt : ∀ j, (r ||| k * 2 ^ 8).testBit j = (r.testBit j || (decide (8 ≤ j) && k.testBit (j - 8))) := by
    intro j
    rw [Nat.testBit_or, Nat.testBit_mul_two_pow]
  refine ⟨⟨Nat.or_lt_two_pow (n := 9) r9 (by omega), ?_⟩, ?_⟩
  · intro j h1 h2
    rw [bt, hr j h1, Bool.false_or]
    by_cases h8 : 8 ≤ j
    · have : k.testBit (j - 8) = false := Nat.testBit_lt_two_pow (Nat.lt_of_lt_of_le hk (by rw [show j - 8 = (j - 9) + 1 by omega, Nat.pow_succ]; have := Nat.two_pow_pos (j - 9); omega))
      rw [this, Bool.and_false]
    · rw [decide_eq_false h8, Bool.false_and]
  · unfold ra_RS
    rw [ra_pr_row (b := r) n (fun j hj => by rw [bt, decide_eq_false (by omega), Bool.false_and, Bool.or_false]), bt, hr 8 hn, Bool.false_or, decide_eq_true (by omega), Bool.true_and]
    have hc : k = 0 ∨ k = 1 := by omega
    rcases hc with rfl | rfl
    · cases ra_pr r e n <;> decide
    · cases ra_pr r e n <;> decide
def ra_row (x y z mask : Nat) : Nat := ((if mask.testBit 2 = true then 2 ^ x else 0) ^^^ (if mask.testBit 1 = true then 2 ^ y else 0)) ^^^ (if mask.testBit 0 = true then 2 ^ z else 0)
theorem ra_if_bit {c : Bool} {x j : Nat} (h : j ≠ x) : (if c = true then 2 ^ x else 0).testBit j = false := by
  cases c
  · exact Nat.zero_testBit j
  · exact Nat.testBit_two_pow_of_ne (fun q => h q.symm)
theorem ra_if_pr {c : Bool} {x n : Nat} {e : Nat → Bool} (h : x < n) : ra_pr (if c = true then 2 ^ x else 0) e n = (c && e x) := by
  cases c
  · exact ra_pr_z n (fun j _ => Nat.zero_testBit j)
  · exact ra_pr_pow n h
theorem ra_row_bit {x y z mask n : Nat} (hx : x < n) (hy : y < n) (hz : z < n) : ∀ j, n ≤ j → (ra_row x y z mask).testBit j = false := by
  intro j hj
  unfold ra_row
  rw [Nat.testBit_xor, Nat.testBit_xor, ra_if_bit (by omega), ra_if_bit (by omega), ra_if_bit (by omega)]
  rfl
theorem ra_row_pr {x y z mask n : Nat} {e : Nat → Bool} (hx : x < n) (hy : y < n) (hz : z < n) :
    ra_pr (ra_row x y z mask) e n = (((mask.testBit 2 && e x) ^^ (mask.testBit 1 && e y)) ^^ (mask.testBit 0 && e z)) := by
  unfold ra_row
  rw [ra_pr_xor, ra_pr_xor, ra_if_pr hx, ra_if_pr hy, ra_if_pr hz]
def ra_odd (m : Nat) : Nat := ((m ^^^ (m >>> 1)) ^^^ (m >>> 2)) &&& 1
theorem ra_odd_tri : ∀ mask, mask < 8 → ∀ a b d : Bool, (((mask.testBit 2 && a) ^^ (mask.testBit 1 && b)) ^^ (mask.testBit 0 && d)).toNat = ra_odd (rn_tri a b d &&& mask) := by decide +kernel
/-- the parities that the triples of T have within the mask -/
def ra_kd (T mask : Nat) : Nat := rb_fo (fun t a => if T.testBit t = true then a ||| 2 ^ (ra_odd (t &&& mask)) else a) 0 8
theorem ra_kd_in : ∀ T, T < 256 → T ≠ 0 → ∀ mask, mask < 8 → ra_kd T mask < 4 ∧ ra_kd T mask ≠ 0 := by decide +kernel
def ra_PC (T : Nat) : Prop := ∀ s, s < 8 → T.testBit s = true → ∀ t, t < 8 → T.testBit t = true → ∀ u, u < 8 → T.testBit u = true → T.testBit ((s ^^^ t) ^^^ u) = true
def ra_pcb (T : Nat) : Bool := (List.range 8).all fun s => !T.testBit s || (List.range 8).all fun t => !T.testBit t || (List.range 8).all fun u => !T.testBit u || T.testBit ((s ^^^ t) ^^^ u)
def ra_kdb (T t : Nat) : Bool := (List.range 8).all fun m => m == 0 || (ra_kd T m == 3 || ra_odd (t &&& m) == ra_kd T m >>> 1)
def ra_affb (T : Nat) : Bool := T == 0 || (!ra_pcb T || (List.range 8).all fun t => T.testBit t == ra_kdb T t)
theorem ra_affb_d : (List.range 256).all ra_affb = true := by decide +kernel
theorem ra_imp : ∀ a b : Bool, (a = true → b = true) → (!a || b) = true := by decide
theorem ra_pcb_of {T : Nat} (h : ra_PC T) : ra_pcb T = true := by
  unfold ra_pcb
  rw [List.all_eq_true]
  intro s hs
  refine ra_imp _ _ (fun a => ?_)
  rw [List.all_eq_true]
  intro t ht
  refine ra_imp _ _ (fun b => ?_)
  rw [List.all_eq_true]
  intro u hu
  exact ra_imp _ _ (fun c => h s (List.mem_range.mp hs) a t (List.mem_range.mp ht) b u (List.mem_range.mp hu) c)
theorem ra_kdb_iff (T t : Nat) : ra_kdb T t = true ↔ ∀ mask, mask < 8 → 0 < mask → ra_kd T mask ≠ 3 → ra_odd (t &&& mask) = ra_kd T mask >>> 1 := by
  unfold ra_kdb
  rw [List.all_eq_true]
  constructor
  · intro h m h1 h2 h3
    have k := h m (List.mem_range.mpr h1)
    rw [Bool.or_eq_true, Bool.or_eq_true, beq_iff_eq, beq_iff_eq, beq_iff_eq] at k
    rcases k with k | k | k
    · omega
    · exact absurd k h3
    · exact k
  · intro h m hm
    rw [Bool.or_eq_true, Bool.or_eq_true, beq_iff_eq, beq_iff_eq, beq_iff_eq]
    by_cases h0 : m = 0
    · exact Or.inl h0
    · by_cases h3 : ra_kd T m = 3
      · exact Or.inr (Or.inl h3)
      · exact Or.inr (Or.inr (h m (List.mem_range.mp hm) (by omega) h3))
theorem ra_aff {T : Nat} (h : T < 256) (h0 : T ≠ 0) (hp : ra_PC T) {t : Nat} (ht : t < 8) :
    T.testBit t = true ↔ ∀ mask, mask < 8 → 0 < mask → ra_kd T mask ≠ 3 → ra_odd (t &&& mask) = ra_kd T mask >>> 1 := by
  have k := List.all_eq_true.mp ra_affb_d T (List.mem_range.mpr h)
  unfold ra_affb at k
  rw [ra_pcb_of hp, Bool.or_eq_true, beq_iff_eq] at k
  have k := k.resolve_left h0
  rw [Bool.not_true, Bool.false_or, List.all_eq_true] at k
  have k := k t (List.mem_range.mpr ht)
  rw [beq_iff_eq] at k
  rw [k]
  exact ra_kdb_iff T t
end
section
/-! closures of a table as flags; the majority theorem for one table -/
noncomputable def rt_fl (p : Prop) : Int32 := @ite Int32 p (Classical.propDecidable p) 1 0
theorem rt_t {p : Prop} (h : p) : rt_fl p = 1 := @if_pos p (Classical.propDecidable p) h Int32 1 0
theorem rt_f {p : Prop} (h : ¬ p) : rt_fl p = 0 := @if_neg p (Classical.propDecidable p) h Int32 1 0
theorem rt_c {p q : Prop} (h : p ↔ q) : rt_fl p = rt_fl q := by rw [propext h]
theorem rt_nb (p : Prop) : rt_fl p = nI (rc_b p) := by
  by_cases h : p
  · rw [rt_t h, rc_t h]; rfl
  · rw [rt_f h, rc_f h]; rfl
theorem rt_nar (p : Prop) : narrow .boolean (.int (rt_fl p)) = .int (rt_fl p) := by
  by_cases h : p
  · rw [rt_t h]; rfl
  · rw [rt_f h]; rfl
theorem rt_if {p A B : Prop} (ht : p → B) (hf : ¬ p → A) : (rt_fl p = 0 → A) ∧ (¬ rt_fl p = 0 → B) := by
  by_cases h : p
  · rw [rt_t h]; exact br_f (by decide) (ht h)
  · rw [rt_f h]; exact br_t rfl (hf h)
theorem rt_b2 (p : Prop) : rc_b p < 2 := by
  by_cases h : p
  · rw [rc_t h]; omega
  · rw [rc_f h]; omega
theorem rt_bn (p : Prop) : rc_b (¬ p) = 1 - rc_b p := by
  by_cases h : p
  · rw [rc_t h, rc_f (fun q => q h)]
  · rw [rc_f h, rc_t h]
def rt_MC (T : Nat) : Prop := ∀ s, s < 8 → ∀ t, t < 8 → T.testBit s = true → T.testBit t = true → T.testBit (s &&& t) = true
def rt_JC (T : Nat) : Prop := ∀ s, s < 8 → ∀ t, t < 8 → T.testBit s = true → T.testBit t = true → T.testBit (s ||| t) = true
def rt_mj (s t u : Nat) : Nat := ((s &&& t) ||| (s &&& u)) ||| (t &&& u)
def rt_OC (T : Nat) : Prop := ∀ s, s < 8 → T.testBit s = true → ∀ t, t < 8 → T.testBit t = true → ∀ u, u < 8 → T.testBit u = true → T.testBit (rt_mj s t u) = true
def rt_FC (T : Nat) : Prop := ∀ t, t < 8 → T.testBit t = true → T.testBit (7 - t) = true
noncomputable def rt_tv (T : Nat) : Nat :=
  (T.testBit 0).toNat + 2 * (T.testBit 7).toNat + 4 * rc_b (rt_MC T) + 8 * rc_b (rt_JC T) + 16 * rc_b (rt_OC T) + 32 * rc_b (ra_PC T) + 64 * rc_b (rt_FC T)
theorem rt_bits {a b c d e f g : Nat} (ha : a < 2) (hb : b < 2) (hc : c < 2) (hd : d < 2) (he : e < 2) (hf : f < 2) (hg : g < 2) :
    (a + 2 * b + 4 * c + 8 * d + 16 * e + 32 * f + 64 * g < 128 ∧ ((a + 2 * b + 4 * c + 8 * d + 16 * e + 32 * f + 64 * g).testBit 2 = true → c = 1)
    ∧ ((a + 2 * b + 4 * c + 8 * d + 16 * e + 32 * f + 64 * g).testBit 3 = true → d = 1) ∧ ((a + 2 * b + 4 * c + 8 * d + 16 * e + 32 * f + 64 * g).testBit 4 = true → e = 1)
    ∧ ((a + 2 * b + 4 * c + 8 * d + 16 * e + 32 * f + 64 * g).testBit 5 = true → f = 1)) := by
  simp only [Nat.testBit_eq_decide_div_mod_eq, decide_eq_true_eq]
  omega
theorem rt_of1 {p : Prop} (h : rc_b p = 1) : p := Classical.byContradiction fun q => by rw [rc_f q] at h; exact absurd h (by decide)
theorem rt_tv_all (T : Nat) : rt_tv T < 128 ∧ ((rt_tv T).testBit 2 = true → rt_MC T) ∧ ((rt_tv T).testBit 3 = true → rt_JC T) ∧ ((rt_tv T).testBit 4 = true → rt_OC T) ∧ ((rt_tv T).testBit 5 = true → ra_PC T) := by
  obtain ⟨h, a, b, c, d⟩ := rt_bits (rb_lt (T.testBit 0)) (rb_lt (T.testBit 7)) (rt_b2 (rt_MC T)) (rt_b2 (rt_JC T)) (rt_b2 (rt_OC T)) (rt_b2 (ra_PC T)) (rt_b2 (rt_FC T))
  exact ⟨h, fun q => rt_of1 (a q), fun q => rt_of1 (b q), fun q => rt_of1 (c q), fun q => rt_of1 (d q)⟩
/-- a table closed under majority is given by its pairs -/
theorem rt_pairs {T : Nat} (h : rt_OC T) (a b d : Bool) : T.testBit (rn_tri a b d) = true ↔
    (∃ t, t < 8 ∧ T.testBit t = true ∧ t.testBit 2 = a ∧ t.testBit 1 = b) ∧ (∃ t, t < 8 ∧ T.testBit t = true ∧ t.testBit 2 = a ∧ t.testBit 0 = d)
    ∧ (∃ t, t < 8 ∧ T.testBit t = true ∧ t.testBit 1 = b ∧ t.testBit 0 = d) := by
  have q := rn_tri_b a b d
  constructor
  · exact fun g => ⟨⟨_, rn_tri_lt a b d, g, q.1, q.2.1⟩, ⟨_, rn_tri_lt a b d, g, q.1, q.2.2⟩, ⟨_, rn_tri_lt a b d, g, q.2.1, q.2.2⟩⟩
  · rintro ⟨⟨s, hs, ms, s2, s1⟩, ⟨t, ht, mt, t2, t0⟩, ⟨u, hu, mu, u1, u0⟩⟩
    have k := h s hs ms t ht mt u hu mu
    have l : rt_mj s t u < 8 := Nat.or_lt_two_pow (n := 3) (Nat.or_lt_two_pow (n := 3) (Nat.lt_of_le_of_lt Nat.and_le_left hs) (Nat.lt_of_le_of_lt Nat.and_le_left hs)) (Nat.lt_of_le_of_lt Nat.and_le_left ht)
    have b2 : (rt_mj s t u).testBit 2 = a := by
      unfold rt_mj
      rw [Nat.testBit_or, Nat.testBit_or, Nat.testBit_and, Nat.testBit_and, Nat.testBit_and, s2, t2]
      cases a <;> cases u.testBit 2 <;> rfl
    have b1 : (rt_mj s t u).testBit 1 = b := by
      unfold rt_mj
      rw [Nat.testBit_or, Nat.testBit_or, Nat.testBit_and, Nat.testBit_and, Nat.testBit_and, s1, u1]
      cases b <;> cases t.testBit 1 <;> rfl
    have b0 : (rt_mj s t u).testBit 0 = d := by
      unfold rt_mj
      rw [Nat.testBit_or, Nat.testBit_or, Nat.testBit_and, Nat.testBit_and, Nat.testBit_and, t0, u0]
      cases d <;> cases s.testBit 0 <;> rfl
    rw [← b2, ← b1, ← b0, rn_tri_of _ l]
    exact k
/-! the loops' conditions by their counters -/
def rt_cm (T k : Nat) : Prop := T.testBit (k >>> 3) = true → T.testBit (k &&& 7) = true → T.testBit ((k >>> 3) &&& (k &&& 7)) = true
def rt_cj (T k : Nat) : Prop := T.testBit (k >>> 3) = true → T.testBit (k &&& 7) = true → T.testBit ((k >>> 3) ||| (k &&& 7)) = true
def rt_A (P : Nat → Prop) (k : Nat) : Prop := ∀ j, j < k → P j
theorem rt_As (P : Nat → Prop) (k : Nat) : rt_A P (k + 1) ↔ (rt_A P k ∧ P k) :=
  ⟨fun h => ⟨fun j hj => h j (by omega), h k (by omega)⟩, fun h j hj => if e : j = k then e ▸ h.2 else h.1 j (by omega)⟩
theorem rt_A0 (P : Nat → Prop) : rt_A P 0 := fun j hj => absurd hj (by omega)
theorem rt_Au {P : Nat → Prop} {k : Nat} (h : P k) : rt_A P (k + 1) ↔ rt_A P k := by rw [rt_As]; exact ⟨fun q => q.1, fun q => ⟨q, h⟩⟩
theorem rt_k2 : ∀ s, s < 8 → ∀ t, t < 8 → (8 * s + t) >>> 3 = s ∧ (8 * s + t) &&& 7 = t := by decide +kernel
theorem rt_k2b : ∀ k, k < 64 → k >>> 3 < 8 ∧ k &&& 7 < 8 := by decide +kernel
theorem rt_mc_iff (T : Nat) : rt_A (rt_cm T) 64 ↔ rt_MC T := by
  constructor
  · intro h s hs t ht a b
    have q := h (8 * s + t) (by omega)
    unfold rt_cm at q
    rw [(rt_k2 s hs t ht).1, (rt_k2 s hs t ht).2] at q
    exact q a b
  · exact fun h k hk a b => h _ (rt_k2b k hk).1 _ (rt_k2b k hk).2 a b
theorem rt_jc_iff (T : Nat) : rt_A (rt_cj T) 64 ↔ rt_JC T := by
  constructor
  · intro h s hs t ht a b
    have q := h (8 * s + t) (by omega)
    unfold rt_cj at q
    rw [(rt_k2 s hs t ht).1, (rt_k2 s hs t ht).2] at q
    exact q a b
  · exact fun h k hk a b => h _ (rt_k2b k hk).1 _ (rt_k2b k hk).2 a b
def rt_c3 (P : Nat → Nat → Nat → Prop) (T k : Nat) : Prop := T.testBit (k >>> 6) = true → T.testBit ((k >>> 3) &&& 7) = true → T.testBit (k &&& 7) = true → P (k >>> 6) ((k >>> 3) &&& 7) (k &&& 7)
theorem rt_k3 : ∀ s, s < 8 → ∀ t, t < 8 → ∀ u, u < 8 → (64 * s + 8 * t + u) >>> 6 = s ∧ ((64 * s + 8 * t + u) >>> 3) &&& 7 = t ∧ (64 * s + 8 * t + u) &&& 7 = u := by decide +kernel
theorem rt_k3b : ∀ k, k < 512 → k >>> 6 < 8 ∧ (k >>> 3) &&& 7 < 8 ∧ k &&& 7 < 8 ∧ (k >>> 6) &&& 7 = k >>> 6 := by decide +kernel
theorem rt_c3_iff (P : Nat → Nat → Nat → Prop) (T : Nat) : rt_A (rt_c3 P T) 512 ↔ ∀ s, s < 8 → T.testBit s = true → ∀ t, t < 8 → T.testBit t = true → ∀ u, u < 8 → T.testBit u = true → P s t u := by
  constructor
  · intro h s hs a t ht b u hu c
    have q := h (64 * s + 8 * t + u) (by omega)
    unfold rt_c3 at q
    rw [(rt_k3 s hs t ht u hu).1, (rt_k3 s hs t ht u hu).2.1, (rt_k3 s hs t ht u hu).2.2] at q
    exact q a b c
  · exact fun h k hk a b c => h _ (rt_k3b k hk).1 a _ (rt_k3b k hk).2.1 b _ (rt_k3b k hk).2.2.1 c
end
section
/-! the component's static methods: closures, traits, shadow, parities -/
theorem xt_100 {post : Int32 → Prop} {Q : Prop} {z : Nat} (h : post (nI (z + 8 * rc_b Q))) : wX_closedUnderPairs_100 post (rt_fl Q) (nI z) := by
  unfold wX_closedUnderPairs_100
  refine rt_if (fun q => ?_) (fun q => ?_)
  · rw [rc_t q] at h
    rw [show nI z + 8 = nI (z + 8 * 1) from nI_add z 8]; exact h
  · rw [rc_f q] at h
    rw [show nI z + 0 = nI (z + 8 * 0) from nI_add z 0]; exact h
theorem xt_62 {post : Int32 → Prop} {J : Int32 → Int32 → Int32 → Prop} {T k s t : Nat} {P : Prop} {z : Int32} (hT : T < 256) (hs : s < 8) (ht : t < 8)
    (h : J z (rt_fl (P ∧ T.testBit (s ||| t) = true)) (nI (k + 1))) : wX_closedUnderPairs_62 post J (nI T) (rt_fl P) (nI k) (nI s) (nI t) z := by
  unfold wX_closedUnderPairs_62
  have l : s ||| t < 8 := Nat.or_lt_two_pow (n := 3) hs ht
  refine rt_if (fun hp => ?_) (fun hp => ?_)
  · rw [rb_or]
    refine rb_hif (by omega) (by omega) (fun hb => nm_r (nI_1 k) ?_) (fun hb => nm_r (nI_1 k) ?_)
    · rw [rt_t ⟨hp, hb⟩] at h; exact h
    · rw [rt_f (fun q => by rw [hb] at q; exact absurd q.2 (by decide))] at h; exact h
  · refine nm_r (nI_1 k) ?_
    rw [rt_f (fun q => hp q.1)] at h; exact h
theorem xt_pairs {post : Int32 → Prop} {T : Nat} (hT : T < 256) (h : post (nI (4 * rc_b (rt_MC T) + 8 * rc_b (rt_JC T)))) : wpX_closedUnderPairs post (nI T) := by
  unfold wpX_closedUnderPairs
  refine loop_0 (fun q k (s : Int32 × Int32) => wX_closedUnderPairs_6 post (nI T) q s.1 s.2 (nI k)) (fun k s => s = (rt_fl (rt_A (rt_cm T) k), rt_fl (rt_A (rt_cj T) k))) 64 (1, 1) ?_ ?_ ?_
  · rw [rt_t (rt_A0 _), rt_t (rt_A0 _)]
  · rintro q s rfl
    show wX_closedUnderPairs_6 post (nI T) (q + 1) (rt_fl (rt_A (rt_cm T) 64)) (rt_fl (rt_A (rt_cj T) 64)) (nI 64)
    rw [rt_c (rt_mc_iff T), rt_c (rt_jc_iff T)]
    refine br_t (by decide) (rt_if (fun hm => xt_100 (z := 4) ?_) (fun hm => xt_100 (z := 0) ?_))
    · rw [rc_t hm] at h; exact h
    · rw [rc_f hm] at h; exact h
  · rintro q k s hk rfl K
    show wX_closedUnderPairs_6 post (nI T) (q + 1) (rt_fl (rt_A (rt_cm T) k)) (rt_fl (rt_A (rt_cj T) k)) (nI k)
    have K1 : wX_closedUnderPairs_6 post (nI T) q (rt_fl (rt_A (rt_cm T) (k + 1))) (rt_fl (rt_A (rt_cj T) (k + 1))) (nI (k + 1)) := K _ rfl
    have same : (T.testBit (k >>> 3) = true → T.testBit (k &&& 7) = false) → wX_closedUnderPairs_6 post (nI T) q (rt_fl (rt_A (rt_cm T) k)) (rt_fl (rt_A (rt_cj T) k)) (nI (k + 1)) := by
      intro hf
      rw [rt_c (rt_Au (P := rt_cm T) (fun a b => by rw [hf a] at b; exact absurd b (by decide))), rt_c (rt_Au (P := rt_cj T) (fun a b => by rw [hf a] at b; exact absurd b (by decide)))] at K1
      exact K1
    have kb := rt_k2b k hk
    refine br_f (nI_ge (b := 64) hk (by decide)) (nm_r (rb_shr (k := 3) (by omega) (by decide)) (nm_r (rb_and k 7) ?_))
    refine rb_hif (by omega) (by omega) (fun hs => ?_) (fun hs => nm_r (nI_1 k) (same (fun a => by rw [hs] at a; exact absurd a (by decide))))
    refine rb_hif (by omega) (by omega) (fun ht => ?_) (fun ht => nm_r (nI_1 k) (same (fun _ => ht)))
    have ej : rt_fl (rt_A (rt_cj T) k ∧ T.testBit ((k >>> 3) ||| (k &&& 7)) = true) = rt_fl (rt_A (rt_cj T) (k + 1)) :=
      rt_c (by rw [rt_As]; exact ⟨fun q => ⟨q.1, fun _ _ => q.2⟩, fun q => ⟨q.1, q.2 hs ht⟩⟩)
    refine rt_if (fun ha => ?_) (fun ha => ?_)
    · rw [rb_and]
      have l : (k >>> 3) &&& (k &&& 7) < 8 := Nat.lt_of_le_of_lt Nat.and_le_left kb.1
      refine rb_hif (by omega) (by omega) (fun hb => xt_62 (P := rt_A (rt_cj T) k) hT kb.1 kb.2 ?_) (fun hb => xt_62 (P := rt_A (rt_cj T) k) (z := 0) hT kb.1 kb.2 ?_)
      · rw [ej]
        rw [rt_t (p := rt_A (rt_cm T) (k + 1)) ((rt_As _ _).mpr ⟨ha, fun _ _ => hb⟩)] at K1
        exact K1
      · rw [ej]
        rw [rt_f (p := rt_A (rt_cm T) (k + 1)) (fun q => by have z := ((rt_As _ _).mp q).2 hs ht; rw [hb] at z; exact absurd z (by decide))] at K1
        exact K1
    · refine xt_62 (P := rt_A (rt_cj T) k) (z := 0) hT kb.1 kb.2 ?_
      rw [ej]
      rw [rt_f (p := rt_A (rt_cm T) (k + 1)) (fun q => ha ((rt_As _ _).mp q).1)] at K1
      exact K1
theorem xt_139 {post : Int32 → Prop} {Q : Prop} {z : Nat} (h : post (nI (z + 32 * rc_b Q))) : wX_closedUnderTriples_139 post (rt_fl Q) (nI z) := by
  unfold wX_closedUnderTriples_139
  refine rt_if (fun q => ?_) (fun q => ?_)
  · rw [rc_t q] at h
    rw [show nI z + 32 = nI (z + 32 * 1) from nI_add z 32]; exact h
  · rw [rc_f q] at h
    rw [show nI z + 0 = nI (z + 32 * 0) from nI_add z 0]; exact h
theorem xt_97 {post : Int32 → Prop} {J : Int32 → Int32 → Int32 → Prop} {T k s t u : Nat} {P : Prop} {z : Int32} (hT : T < 256) (hs : s < 8) (ht : t < 8) (hu : u < 8)
    (h : J z (rt_fl (P ∧ T.testBit ((s ^^^ t) ^^^ u) = true)) (nI (k + 1))) : wX_closedUnderTriples_97 post J (nI T) (rt_fl P) (nI k) (nI s) (nI t) (nI u) z := by
  unfold wX_closedUnderTriples_97
  have l : (s ^^^ t) ^^^ u < 8 := Nat.xor_lt_two_pow (n := 3) (Nat.xor_lt_two_pow (n := 3) hs ht) hu
  refine rt_if (fun hp => ?_) (fun hp => ?_)
  · rw [rb_xor, rb_xor]
    refine rb_hif (by omega) (by omega) (fun hb => nm_r (nI_1 k) ?_) (fun hb => nm_r (nI_1 k) ?_)
    · rw [rt_t ⟨hp, hb⟩] at h; exact h
    · rw [rt_f (fun q => by rw [hb] at q; exact absurd q.2 (by decide))] at h; exact h
  · refine nm_r (nI_1 k) ?_
    rw [rt_f (fun q => hp q.1)] at h; exact h
theorem xt_mjl {s t u : Nat} (hs : s < 8) (ht : t < 8) : rt_mj s t u < 8 :=
  Nat.or_lt_two_pow (n := 3) (Nat.or_lt_two_pow (n := 3) (Nat.lt_of_le_of_lt Nat.and_le_left hs) (Nat.lt_of_le_of_lt Nat.and_le_left hs)) (Nat.lt_of_le_of_lt Nat.and_le_left ht)
theorem xt_mj (s t u : Nat) : ((nI s &&& nI t) ||| (nI s &&& nI u)) ||| (nI t &&& nI u) = nI (rt_mj s t u) := by
  rw [rb_and, rb_and, rb_and, rb_or, rb_or]; rfl
def xt_co (T k : Nat) : Prop := rt_c3 (fun s t u => T.testBit (rt_mj s t u) = true) T k
def xt_cp (T k : Nat) : Prop := rt_c3 (fun s t u => T.testBit ((s ^^^ t) ^^^ u) = true) T k
theorem xt_co_iff (T : Nat) : rt_A (xt_co T) 512 ↔ rt_OC T := rt_c3_iff (fun s t u => T.testBit (rt_mj s t u) = true) T
theorem xt_cp_iff (T : Nat) : rt_A (xt_cp T) 512 ↔ ra_PC T := rt_c3_iff (fun s t u => T.testBit ((s ^^^ t) ^^^ u) = true) T
theorem xt_triples {post : Int32 → Prop} {T : Nat} (hT : T < 256) (h : post (nI (16 * rc_b (rt_OC T) + 32 * rc_b (ra_PC T)))) : wpX_closedUnderTriples post (nI T) := by
  unfold wpX_closedUnderTriples
  refine loop_0 (fun q k (s : Int32 × Int32) => wX_closedUnderTriples_6 post (nI T) q s.1 s.2 (nI k)) (fun k s => s = (rt_fl (rt_A (xt_co T) k), rt_fl (rt_A (xt_cp T) k))) 512 (1, 1) ?_ ?_ ?_
  · rw [rt_t (rt_A0 _), rt_t (rt_A0 _)]
  · rintro q s rfl
    show wX_closedUnderTriples_6 post (nI T) (q + 1) (rt_fl (rt_A (xt_co T) 512)) (rt_fl (rt_A (xt_cp T) 512)) (nI 512)
    rw [rt_c (xt_co_iff T), rt_c (xt_cp_iff T)]
    refine br_t (by decide) (rt_if (fun hm => xt_139 (z := 16) ?_) (fun hm => xt_139 (z := 0) ?_))
    · rw [rc_t hm] at h; exact h
    · rw [rc_f hm] at h; exact h
  · rintro q k s hk rfl K
    show wX_closedUnderTriples_6 post (nI T) (q + 1) (rt_fl (rt_A (xt_co T) k)) (rt_fl (rt_A (xt_cp T) k)) (nI k)
    have K1 : wX_closedUnderTriples_6 post (nI T) q (rt_fl (rt_A (xt_co T) (k + 1))) (rt_fl (rt_A (xt_cp T) (k + 1))) (nI (k + 1)) := K _ rfl
    have same : (T.testBit (k >>> 6) = true → T.testBit ((k >>> 3) &&& 7) = true → T.testBit (k &&& 7) = false) → wX_closedUnderTriples_6 post (nI T) q (rt_fl (rt_A (xt_co T) k)) (rt_fl (rt_A (xt_cp T) k)) (nI (k + 1)) := by
      intro hf
      rw [rt_c (rt_Au (P := xt_co T) (fun a b c => by rw [hf a b] at c; exact absurd c (by decide))), rt_c (rt_Au (P := xt_cp T) (fun a b c => by rw [hf a b] at c; exact absurd c (by decide)))] at K1
      exact K1
    obtain ⟨b1, b2, b3, _⟩ := rt_k3b k hk
    have e5 : (nI k >>> ((3 : Int32) &&& 31)) &&& (7 : Int32) = nI ((k >>> 3) &&& 7) := by
      rw [show nI k >>> ((3 : Int32) &&& 31) = nI (k >>> 3) from rb_shr (k := 3) (by omega) (by decide)]
      exact rb_and _ 7
    refine br_f (nI_ge (b := 512) hk (by decide)) (nm_r (rb_shr (k := 6) (by omega) (by decide)) (nm_r e5 (nm_r (rb_and k 7) ?_)))
    refine rb_hif (by omega) (by omega) (fun hs => ?_) (fun hs => nm_r (nI_1 k) (same (fun a => by rw [hs] at a; exact absurd a (by decide))))
    refine rb_hif (by omega) (by omega) (fun ht => ?_) (fun ht => nm_r (nI_1 k) (same (fun _ a => by rw [ht] at a; exact absurd a (by decide))))
    refine rb_hif (by omega) (by omega) (fun hu => ?_) (fun hu => nm_r (nI_1 k) (same (fun _ _ => hu)))
    refine nm_r (xt_mj _ _ _) ?_
    have ej : rt_fl (rt_A (xt_cp T) k ∧ T.testBit (((k >>> 6) ^^^ ((k >>> 3) &&& 7)) ^^^ (k &&& 7)) = true) = rt_fl (rt_A (xt_cp T) (k + 1)) :=
      rt_c (by rw [rt_As]; exact ⟨fun q => ⟨q.1, fun _ _ _ => q.2⟩, fun q => ⟨q.1, q.2 hs ht hu⟩⟩)
    refine rt_if (fun ha => ?_) (fun ha => ?_)
    · have l := xt_mjl (u := k &&& 7) b1 b2
      refine rb_hif (by omega) (by omega) (fun hb => xt_97 (P := rt_A (xt_cp T) k) hT b1 b2 b3 ?_) (fun hb => xt_97 (P := rt_A (xt_cp T) k) (z := 0) hT b1 b2 b3 ?_)
      · rw [ej]
        rw [rt_t (p := rt_A (xt_co T) (k + 1)) ((rt_As _ _).mpr ⟨ha, fun _ _ _ => hb⟩)] at K1
        exact K1
      · rw [ej]
        rw [rt_f (p := rt_A (xt_co T) (k + 1)) (fun q => by have z : T.testBit (rt_mj (k >>> 6) ((k >>> 3) &&& 7) (k &&& 7)) = true := ((rt_As _ _).mp q).2 hs ht hu; rw [hb] at z; exact absurd z (by decide))] at K1
        exact K1
    · refine xt_97 (P := rt_A (xt_cp T) k) (z := 0) hT b1 b2 b3 ?_
      rw [ej]
      rw [rt_f (p := rt_A (xt_co T) (k + 1)) (fun q => ha ((rt_As _ _).mp q).1)] at K1
      exact K1
def xt_cf (T t : Nat) : Prop := T.testBit t = true → T.testBit (7 - t) = true
theorem xt_traits {post : Int32 → Prop} {T : Nat} (hT : T < 256) (h : post (nI (rt_tv T))) : wpX_traitsOf post (nI T) := by
  unfold wpX_traitsOf
  have e1 : (1 * (nI T &&& 1)) + (2 * ((nI T >>> ((7 : Int32) &&& 31)) &&& 1)) = nI ((T.testBit 0).toNat + 2 * (T.testBit 7).toNat) := by
    rw [show (nI T >>> ((7 : Int32) &&& 31)) &&& 1 = nI (T.testBit 7).toNat from rb_bit (k := 7) (by omega) (by decide), show nI T &&& 1 = nI (T &&& 1) from rb_and T 1,
      show (1 : Int32) * nI (T &&& 1) = nI (1 * (T &&& 1)) from pk_mul 1 _, show (2 : Int32) * nI (T.testBit 7).toNat = nI (2 * (T.testBit 7).toNat) from pk_mul 2 _, nI_add, Nat.one_mul, Nat.and_one_is_mod, Nat.toNat_testBit T 0, Nat.pow_zero, Nat.div_one]
  refine nm_r e1 (xt_pairs hT (nm_r (nI_add _ _) (xt_triples hT (nm_r (nI_add _ _) ?_))))
  have key : ∀ c : Nat, post (nI (c + 64 * rc_b (rt_FC T))) → ∃ n33 : Nat, wX_traitsOf_33 post (nI T) (nI c) n33 1 0 := by
    intro c hc
    refine loop_0 (fun q t (s : Int32) => wX_traitsOf_33 post (nI T) (nI c) q s (nI t)) (fun t s => s = rt_fl (rt_A (xt_cf T) t)) 8 1 (rt_t (rt_A0 _)).symm ?_ ?_
    · rintro q s rfl
      show wX_traitsOf_33 post (nI T) (nI c) (q + 1) (rt_fl (rt_FC T)) (nI 8)
      refine br_t (by decide) (rt_if (fun hf => ?_) (fun hf => ?_))
      · rw [rc_t hf] at hc
        rw [show nI c + 64 = nI (c + 64 * 1) from nI_add c 64]; exact hc
      · rw [rc_f hf] at hc; exact hc
    · rintro q t s ht rfl K
      show wX_traitsOf_33 post (nI T) (nI c) (q + 1) (rt_fl (rt_A (xt_cf T) t)) (nI t)
      have K1 : wX_traitsOf_33 post (nI T) (nI c) q (rt_fl (rt_A (xt_cf T) (t + 1))) (nI (t + 1)) := K _ rfl
      refine br_f (nI_ge (b := 8) ht (by decide)) ?_
      refine rb_hif (by omega) (by omega) (fun hs => ?_) (fun hs => nm_r (nI_1 t) ?_)
      · rw [show (7 : Int32) - nI t = nI (7 - t) from pk_sub (a := 7) (by omega)]
        refine rb_hif (by omega) (by omega) (fun hb => nm_r (nI_1 t) ?_) (fun hb => nm_r (nI_1 t) ?_)
        · rw [rt_c (rt_Au (P := xt_cf T) (fun _ => hb))] at K1; exact K1
        · rw [rt_f (p := rt_A (xt_cf T) (t + 1)) (fun q => by have z := ((rt_As _ _).mp q).2 hs; rw [hb] at z; exact absurd z (by decide))] at K1; exact K1
      · rw [rt_c (rt_Au (P := xt_cf T) (fun a => by rw [hs] at a; exact absurd a (by decide)))] at K1; exact K1
  refine key _ ?_
  have e : (T.testBit 0).toNat + 2 * (T.testBit 7).toNat + (4 * rc_b (rt_MC T) + 8 * rc_b (rt_JC T)) + (16 * rc_b (rt_OC T) + 32 * rc_b (ra_PC T)) + 64 * rc_b (rt_FC T) = rt_tv T := by
    unfold rt_tv; omega
  rw [e]; exact h
/-! shadow -/
def xs_g (f w : Nat) : Nat → Nat → Nat := fun t a => if f.testBit t = true then (if t &&& w = 0 then a ||| 1 else a ||| 2) else a
theorem xs_shadow {post : Int32 → Prop} {f w : Nat} (hf : f < 256) (hw : w < 8) (h : post (nI (rb_fo (xs_g f w) 0 8))) : wpX_shadow post (nI f) (nI w) := by
  unfold wpX_shadow
  refine loop_0 (fun q t (s : Int32) => wX_shadow_4 post (nI f) (nI w) q s (nI t)) (fun t s => s = nI (rb_fo (xs_g f w) 0 t)) 8 0 rfl ?_ ?_
  · rintro q s rfl
    exact br_t (by decide) h
  · rintro q t s ht rfl K
    show wX_shadow_4 post (nI f) (nI w) (q + 1) (nI (rb_fo (xs_g f w) 0 t)) (nI t)
    have K1 : wX_shadow_4 post (nI f) (nI w) q (nI (xs_g f w t (rb_fo (xs_g f w) 0 t))) (nI (t + 1)) := K _ rfl
    refine br_f (nI_ge (b := 8) ht (by decide)) ?_
    have l : t &&& w < 8 := Nat.lt_of_le_of_lt Nat.and_le_left ht
    refine rb_hif (by omega) (by omega) (fun hs => ?_) (fun hs => nm_r (nI_1 t) ?_)
    · rw [rb_and]
      refine pk_eq (t &&& w) 0 (fun hz => nm_r (rb_or _ 1) (nm_r (nI_1 t) ?_)) (fun hz => nm_r (rb_or _ 2) (nm_r (nI_1 t) ?_))
      · unfold xs_g at K1 ⊢
        rw [if_pos hs, if_pos hz] at K1; exact K1
      · unfold xs_g at K1 ⊢
        rw [if_pos hs, if_neg hz] at K1; exact K1
    · unfold xs_g at K1 ⊢
      rw [if_neg (by rw [hs]; decide)] at K1; exact K1
theorem xs_sh : ∀ f, f < 256 → ∀ j, j < 3 → (rb_fo (xs_g f (2 ^ j)) 0 8 < 4 ∧ ∀ b : Bool, (rb_fo (xs_g f (2 ^ j)) 0 8).testBit b.toNat = true ↔ ∃ t, t < 8 ∧ f.testBit t = true ∧ t.testBit j = b) := by decide +kernel
/-! parities -/
theorem xs_par {post : Int32 → Prop} {T m : Nat} (hT : T < 256) (hm : m < 8) (h : post (nI (ra_kd T m))) : wpX_parities post (nI T) (nI m) := by
  unfold wpX_parities
  refine loop_0 (fun q t (s : Int32) => wX_parities_4 post (nI T) (nI m) q s (nI t)) (fun t s => s = nI (rb_fo (fun t a => if T.testBit t = true then a ||| 2 ^ (ra_odd (t &&& m)) else a) 0 t)) 8 0 rfl ?_ ?_
  · rintro q s rfl
    exact br_t (by decide) h
  · rintro q t s ht rfl K
    have K1 : wX_parities_4 post (nI T) (nI m) q (nI (if T.testBit t = true then (rb_fo (fun t a => if T.testBit t = true then a ||| 2 ^ (ra_odd (t &&& m)) else a) 0 t) ||| 2 ^ (ra_odd (t &&& m)) else (rb_fo (fun t a => if T.testBit t = true then a ||| 2 ^ (ra_odd (t &&& m)) else a) 0 t))) (nI (t + 1)) := K _ rfl
    show wX_parities_4 post (nI T) (nI m) (q + 1) (nI (rb_fo (fun t a => if T.testBit t = true then a ||| 2 ^ (ra_odd (t &&& m)) else a) 0 t)) (nI t)
    refine br_f (nI_ge (b := 8) ht (by decide)) ?_
    have l : t &&& m < 8 := Nat.lt_of_le_of_lt Nat.and_le_left ht
    have eo : ((nI (t &&& m) ^^^ (nI (t &&& m) >>> ((1 : Int32) &&& 31))) ^^^ (nI (t &&& m) >>> ((2 : Int32) &&& 31))) &&& 1 = nI (ra_odd (t &&& m)) := by
      rw [show nI (t &&& m) >>> ((1 : Int32) &&& 31) = nI ((t &&& m) >>> 1) from rb_shr (k := 1) (by omega) (by decide), show nI (t &&& m) >>> ((2 : Int32) &&& 31) = nI ((t &&& m) >>> 2) from rb_shr (k := 2) (by omega) (by decide), rb_xor, rb_xor]
      exact rb_and _ 1
    have o2 : ra_odd (t &&& m) < 2 := by unfold ra_odd; rw [Nat.and_one_is_mod]; omega
    have eo2 : nI (rb_fo (fun t a => if T.testBit t = true then a ||| 2 ^ (ra_odd (t &&& m)) else a) 0 t) ||| ((1 : Int32) <<< (nI (ra_odd (t &&& m)) &&& 31)) = nI ((rb_fo (fun t a => if T.testBit t = true then a ||| 2 ^ (ra_odd (t &&& m)) else a) 0 t) ||| 2 ^ (ra_odd (t &&& m))) := by
      rw [rb_one (by omega), rb_or]
    refine rb_hif (by omega) (by omega) (fun hs => nm_r (rb_and t m) (nm_r eo (nm_r eo2 (nm_r (nI_1 t) ?_)))) (fun hs => nm_r (nI_1 t) ?_)
    · rw [if_pos hs] at K1; exact K1
    · rw [if_neg (by rw [hs]; decide)] at K1; exact K1
end
section
/-! the component's state: context, net traits, domains, fitting, narrow -/
theorem rc_cn_z {P : Nat → Prop} : ∀ k, rc_cn P k = 0 ↔ ∀ i, i < k → ¬ P i := by
  intro k
  induction k with
  | zero => exact ⟨fun _ i hi => absurd hi (by omega), fun _ => rfl⟩
  | succ k ih =>
    unfold rc_cn
    constructor
    · intro h i hi hp
      by_cases e : i = k
      · rw [e] at hp; rw [rc_t hp] at h; omega
      · exact (ih.mp (by omega)) i (by omega) hp
    · intro h
      rw [rc_f (h k (by omega)), ih.mpr (fun i hi => h i (by omega))]
/-- what every method but the storing ones leaves as it is -/
def rx_C (n L : Nat) (tab mk us rl fi se th asm : Nat → Int32) (T R X Y Z AS : Nat → Nat) : Prop :=
  (2 ≤ n ∧ n ≤ 8 ∧ L ≤ 20)
  ∧ (∀ r, r < 6 → T r < 256 ∧ tab r = nI (T r) ∧ mk r = nI (rt_tv (T r)) ∧ us r = nI (rc_cn (fun c => R c = r) L))
  ∧ (∀ c, c < L → (R c < 6 ∧ rl c = nI (R c)) ∧ (X c < n ∧ fi c = nI (X c)) ∧ (Y c < n ∧ se c = nI (Y c)) ∧ (Z c < n ∧ th c = nI (Z c)))
  ∧ (∀ v, v < 8 → AS v < 3 ∧ asm v = nI (AS v))
/-- the constraints that count -/
def rx_Ac (L : Nat) (sk : Int32) (c : Nat) : Prop := c < L ∧ ¬ nI c = sk
def rx_Dm (n : Nat) (dom : Nat → Int32) (D : Nat → Nat) : Prop := ∀ v, v < n → D v < 4 ∧ dom v = nI (D v)
def rx_up (D : Nat → Nat) (k x : Nat) : Nat → Nat := fun j => if j = k then x else D j
def rx_as (AS : Nat → Nat) (v : Nat) : Nat := if AS v = 2 then 3 else 2 ^ AS v
def rx_Nt (L : Nat) (T R : Nat → Nat) (N : Nat) : Prop := ∀ j, N.testBit j = true ↔ ((127 : Nat).testBit j = true ∧ ∀ c, c < L → (rt_tv (T (R c))).testBit j = true)
section
variable {n L : Nat} {sk cl fd : Int32} {tab mk us rl fi se th asm dom sv tr tu fo ro : Nat → Int32} {T R X Y Z AS D : Nat → Nat}
theorem rx_n (C : rx_C n L tab mk us rl fi se th asm T R X Y Z AS) : 2 ≤ n ∧ n ≤ 8 ∧ L ≤ 20 := C.1
theorem rx_fi (C : rx_C n L tab mk us rl fi se th asm T R X Y Z AS) {c : Nat} (hc : c < L) : fi (nI c).toNatClampNeg = nI (X c) := by
  have h := C.1
  rw [nI_clamp (by omega)]; exact (C.2.2.1 c hc).2.1.2
theorem rx_se (C : rx_C n L tab mk us rl fi se th asm T R X Y Z AS) {c : Nat} (hc : c < L) : se (nI c).toNatClampNeg = nI (Y c) := by
  have h := C.1
  rw [nI_clamp (by omega)]; exact (C.2.2.1 c hc).2.2.1.2
theorem rx_th (C : rx_C n L tab mk us rl fi se th asm T R X Y Z AS) {c : Nat} (hc : c < L) : th (nI c).toNatClampNeg = nI (Z c) := by
  have h := C.1
  rw [nI_clamp (by omega)]; exact (C.2.2.1 c hc).2.2.2.2
theorem rx_rl (C : rx_C n L tab mk us rl fi se th asm T R X Y Z AS) {c : Nat} (hc : c < L) : rl (nI c).toNatClampNeg = nI (R c) := by
  have h := C.1
  rw [nI_clamp (by omega)]; exact (C.2.2.1 c hc).1.2
theorem rx_R (C : rx_C n L tab mk us rl fi se th asm T R X Y Z AS) {c : Nat} (hc : c < L) : R c < 6 := (C.2.2.1 c hc).1.1
theorem rx_X (C : rx_C n L tab mk us rl fi se th asm T R X Y Z AS) {c : Nat} (hc : c < L) : X c < n ∧ Y c < n ∧ Z c < n := ⟨(C.2.2.1 c hc).2.1.1, (C.2.2.1 c hc).2.2.1.1, (C.2.2.1 c hc).2.2.2.1⟩
theorem rx_T (C : rx_C n L tab mk us rl fi se th asm T R X Y Z AS) {r : Nat} (hr : r < 6) : T r < 256 := (C.2.1 r hr).1
theorem rx_tab (C : rx_C n L tab mk us rl fi se th asm T R X Y Z AS) {r : Nat} (hr : r < 6) : tab (nI r).toNatClampNeg = nI (T r) := by
  rw [nI_clamp (by omega)]; exact (C.2.1 r hr).2.1
theorem rx_mk (C : rx_C n L tab mk us rl fi se th asm T R X Y Z AS) {r : Nat} (hr : r < 6) : mk (nI r).toNatClampNeg = nI (rt_tv (T r)) := by
  rw [nI_clamp (by omega)]; exact (C.2.1 r hr).2.2.1
theorem rx_us (C : rx_C n L tab mk us rl fi se th asm T R X Y Z AS) {r : Nat} (hr : r < 6) : us (nI r).toNatClampNeg = nI (rc_cn (fun c => R c = r) L) := by
  rw [nI_clamp (by omega)]; exact (C.2.1 r hr).2.2.2
theorem rx_asm (C : rx_C n L tab mk us rl fi se th asm T R X Y Z AS) {v : Nat} (hv : v < 8) : asm (nI v).toNatClampNeg = nI (AS v) := by
  rw [nI_clamp (by omega)]; exact (C.2.2.2 v hv).2
theorem rx_tt (C : rx_C n L tab mk us rl fi se th asm T R X Y Z AS) {c : Nat} (hc : c < L) : tab (rl (nI c).toNatClampNeg).toNatClampNeg = nI (T (R c)) := by
  rw [rx_rl C hc]; exact rx_tab C (rx_R C hc)
theorem rx_V (C : rx_C n L tab mk us rl fi se th asm T R X Y Z AS) : rn_Vars n (rx_Ac L sk) X Y Z := fun _ hc => rx_X C hc.1
theorem rx_dm {v : Nat} (h : rx_Dm n dom D) (hv : v < n) (hn : n ≤ 8) : dom (nI v).toNatClampNeg = nI (D v) := by
  rw [nI_clamp (by omega)]; exact (h v hv).2
theorem rx_dm_up {v x : Nat} (h : rx_Dm n dom D) (hx : x < 4) : rx_Dm n (upd dom v (nI x)) (rx_up D v x) := by
  intro w hw
  unfold rx_up
  by_cases e : w = v
  · rw [if_pos e, e, pk_us]; exact ⟨hx, rfl⟩
  · rw [if_neg e, pk_un e]; exact h w hw
theorem rx_up_s {D : Nat → Nat} {k x : Nat} : rx_up D k x k = x := if_pos rfl
theorem rx_up_n {D : Nat → Nat} {k x j : Nat} (h : j ≠ k) : rx_up D k x j = D j := if_neg h
theorem rx_ext {s : Nat → Int32} {g : Nat → Nat} {v : Nat} {x : Int32} (hs : ∀ w, w < v → s w = nI (g w)) (hx : x = nI (g v)) : ∀ w, w < v + 1 → upd s v x w = nI (g w) := by
  intro w hw
  by_cases e : w = v
  · rw [e, pk_us]; exact hx
  · rw [pk_un e]; exact hs w (by omega)
theorem rx_as_lt {v : Nat} (h : AS v < 3) : rx_as AS v < 4 := by
  unfold rx_as
  have : AS v = 0 ∨ AS v = 1 ∨ AS v = 2 := by omega
  rcases this with e | e | e <;> rw [e] <;> decide
theorem xn_net {post : Int32 → Prop} (C : rx_C n L tab mk us rl fi se th asm T R X Y Z AS) (h : ∀ N, rx_Nt L T R N → post (nI N)) : wpX_netTraits post ((nI n), (nI L), sk, cl, fd, tab, mk, us, rl, fi, se, th, asm, dom, sv, tr, tu, fo, ro) := by
  show ∃ q, wX_netTraits_5 post (nI n) (nI L) sk cl fd tab mk us rl fi se th asm dom sv tr tu fo ro q 127 0
  refine loop_0 (fun q r (s : Int32) => wX_netTraits_5 post (nI n) (nI L) sk cl fd tab mk us rl fi se th asm dom sv tr tu fo ro q s (nI r)) (fun r s => ∃ a : Nat, s = nI a ∧ ∀ j, a.testBit j = true ↔ ((127 : Nat).testBit j = true ∧ ∀ p, p < r → (∃ c, c < L ∧ R c = p) → (rt_tv (T p)).testBit j = true)) 6 127
    ⟨127, rfl, fun j => ⟨fun q => ⟨q, fun p hp => absurd hp (by omega)⟩, fun q => q.1⟩⟩ ?_ ?_
  · rintro q s ⟨a, rfl, ha⟩
    refine br_t (by decide) (h a (fun j => ?_))
    rw [ha j]
    exact ⟨fun q => ⟨q.1, fun c hc => q.2 (R c) (rx_R C hc) ⟨c, hc, rfl⟩⟩, fun q => ⟨q.1, fun p _ ⟨c, hc, e⟩ => e ▸ q.2 c hc⟩⟩
  · rintro q r s hr ⟨a, rfl, ha⟩ K
    have hL := C.1
    have hcl := rc_cn_le (fun c => R c = r) L
    refine br_f (nI_ge (b := 6) hr (by decide)) (And.intro (vp_in_nI hr (by decide)) ?_)
    rw [rx_us C hr]
    refine pk_le (rc_cn (fun c => R c = r) L) 0 (fun hz => nm_r (nI_1 r) (K _ ⟨a, rfl, fun j => ?_⟩)) (fun hz => And.intro (vp_in_nI hr (by decide)) (nm_r (e' := nI (a &&& rt_tv (T r))) (by rw [rx_mk C hr, rb_and]) (nm_r (nI_1 r) (K _ ⟨_, rfl, fun j => ?_⟩))))
    · rw [ha j]
      have hno := (rc_cn_z L).mp (by omega : rc_cn (fun c => R c = r) L = 0)
      constructor
      · rintro ⟨h1, h2⟩
        refine ⟨h1, fun p hp hu => ?_⟩
        by_cases e : p = r
        · obtain ⟨c, hc, ec⟩ := hu
          exact absurd (ec.trans e) (hno c hc)
        · exact h2 p (by omega) hu
      · exact fun q => ⟨q.1, fun p hp => q.2 p (by omega)⟩
    · rw [Nat.testBit_and, Bool.and_eq_true, ha j]
      have hyes : ∃ c, c < L ∧ R c = r := Classical.byContradiction fun q => by
        have := (rc_cn_z (P := fun c => R c = r) L).mpr (fun c hc e => q ⟨c, hc, e⟩)
        omega
      constructor
      · rintro ⟨⟨h1, h2⟩, h3⟩
        refine ⟨h1, fun p hp hu => ?_⟩
        by_cases e : p = r
        · rw [e]; exact h3
        · exact h2 p (by omega) hu
      · exact fun q => ⟨⟨q.1, fun p hp => q.2 p (by omega)⟩, q.2 r (by omega) hyes⟩
theorem xd_set {post : SX → Prop} (C : rx_C n L tab mk us rl fi se th asm T R X Y Z AS) (h : ∀ dom', rx_Dm n dom' (rx_as AS) → post ((nI n), (nI L), sk, cl, fd, tab, mk, us, rl, fi, se, th, asm, dom', sv, tr, tu, fo, ro)) : wpX_setDomains post ((nI n), (nI L), sk, cl, fd, tab, mk, us, rl, fi, se, th, asm, dom, sv, tr, tu, fo, ro) := by
  have hn := C.1
  show ∃ q, wX_setDomains_2 post (nI n) (nI L) sk cl fd q 0 tab mk us rl fi se th asm dom sv tr tu fo ro
  refine loop_0 (fun q v (s : Nat → Int32) => wX_setDomains_2 post (nI n) (nI L) sk cl fd q (nI v) tab mk us rl fi se th asm s sv tr tu fo ro) (fun v s => ∀ w, w < v → s w = nI (rx_as AS w)) n dom (fun w hw => absurd hw (by omega)) ?_ ?_
  · intro q s hs
    exact br_t (nI_le (Nat.le_refl n) (by omega)) (h s (fun w hw => ⟨rx_as_lt (C.2.2.2 w (by omega)).1, hs w hw⟩))
  · intro q v s hv hs K
    have h3 := (C.2.2.2 v (by omega)).1
    refine br_f (nI_ge hv (by omega)) (And.intro (vp_in_nI (by omega) (by decide)) ?_)
    rw [rx_asm C (by omega)]
    refine pk_eq (AS v) 2 (fun h2 => And.intro (vp_in_nI (by omega) (by decide)) (nm_r (e' := upd s v 3) (by rw [nI_clamp (by omega)]) (nm_r (nI_1 v) (K _ (rx_ext hs ?_)))))
      (fun h2 => And.intro (vp_in_nI (by omega) (by decide)) (And.intro (vp_in_nI (by omega) (by decide)) (nm_r (e' := upd s v (nI (2 ^ AS v))) (by rw [nI_clamp (by omega), rb_one (by omega)]) (nm_r (nI_1 v) (K _ (rx_ext hs ?_))))))
    · unfold rx_as; rw [if_pos h2]; rfl
    · unfold rx_as; rw [if_neg h2]
theorem xf_161 {post : Int32 → Prop} {J : Int32 → Int32 → Prop} {P Q : Prop} {x y z o i : Int32} {a t Tn : Nat} (hT : Tn < 256) (ht : t < 8) (ho : o = rt_fl P) (hi : i = rt_fl Q)
    (hy : P → Q → Tn.testBit t = true → J (nI (a ||| 2 ^ t)) (nI (t + 1))) (hn : ¬ (P ∧ Q ∧ Tn.testBit t = true) → J (nI a) (nI (t + 1))) :
    wX_fitting_161 post J x y z (nI Tn) (nI a) (nI t) o i (nI n) (nI L) sk cl fd tab mk us rl fi se th asm dom sv tr tu fo ro := by
  subst ho hi
  unfold wX_fitting_161
  exact rt_if (fun hp => rt_if (fun hq => rb_hif (by omega) (by omega) (fun hb => nm_r (e' := nI (a ||| 2 ^ t)) (by rw [rb_one (by omega), rb_or]) (nm_r (nI_1 t) (hy hp hq hb)))
    (fun hb => nm_r (nI_1 t) (hn (fun g => by rw [hb] at g; exact absurd g.2.2 (by decide))))) (fun hq => nm_r (nI_1 t) (hn (fun g => hq g.2.1)))) (fun hp => nm_r (nI_1 t) (hn (fun g => hp g.1)))
theorem rb_hifE {A B : Prop} {x y : Int32} (a k : Nat) (hx : x = nI a) (hy : y = nI k) (ha : a < 2 ^ 31) (hk : k < 32) (ht : a.testBit k = true → B) (hf : a.testBit k = false → A) : wpX_has (fun r => (r = 0 → A) ∧ (¬ r = 0 → B)) x y := by
  subst hx hy
  exact rb_hif ha hk ht hf
theorem xf_111 {post : Int32 → Prop} {J : Int32 → Int32 → Prop} {P : Prop} {o : Int32} {x y z a t p q r Tn : Nat} (hD : rx_Dm n dom D) (h8 : n ≤ 8) (hx : x < n) (hy : y < n) (hz : z < n) (hT : Tn < 256) (ht : t < 8)
    (hp : p < 2) (hq : q < 2) (hr : r < 2) (ho : o = rt_fl P)
    (hyes : P → (D x).testBit p = true → (D y).testBit q = true → (D z).testBit r = true → Tn.testBit t = true → J (nI (a ||| 2 ^ t)) (nI (t + 1)))
    (hno : ¬ (P ∧ (D x).testBit p = true ∧ (D y).testBit q = true ∧ (D z).testBit r = true ∧ Tn.testBit t = true) → J (nI a) (nI (t + 1))) :
    wX_fitting_111 post J (nI x) (nI y) (nI z) (nI Tn) (nI a) (nI t) (nI p) (nI q) (nI r) o (nI n) (nI L) sk cl fd tab mk us rl fi se th asm dom sv tr tu fo ro := by
  have dx := (hD x hx).1
  have dy := (hD y hy).1
  have dz := (hD z hz).1
  have h0 : ∀ {Q : Prop}, ¬ Q → (0 : Int32) = rt_fl Q := fun q => (rt_f q).symm
  have nf : ∀ {b : Bool}, b = false → ¬ b = true := fun e g => by rw [e] at g; exact absurd g (by decide)
  unfold wX_fitting_111
  refine And.intro (vp_in_nI (by omega) (by decide)) (rb_hifE (D x) p (rx_dm hD hx h8) rfl (by omega) (by omega) (fun bx => ?_) (fun bx => ?_))
  · refine And.intro (vp_in_nI (by omega) (by decide)) (rb_hifE (D y) q (rx_dm hD hy h8) rfl (by omega) (by omega) (fun bY => ?_) (fun bY => ?_))
    · refine And.intro (vp_in_nI (by omega) (by decide)) (rb_hifE (D z) r (rx_dm hD hz h8) rfl (by omega) (by omega) (fun bz => ?_) (fun bz => ?_))
      · exact xf_161 (Q := True) hT ht ho (rt_t trivial).symm (fun a _ c => hyes a bx bY bz c) (fun g => hno (fun k => g ⟨k.1, trivial, k.2.2.2.2⟩))
      · exact xf_161 (Q := False) hT ht ho (h0 id) (fun _ b _ => b.elim) (fun _ => hno (fun k => nf bz k.2.2.2.1))
    · exact xf_161 (Q := False) hT ht ho (h0 id) (fun _ b _ => b.elim) (fun _ => hno (fun k => nf bY k.2.2.1))
  · exact xf_161 (Q := False) hT ht ho (h0 id) (fun _ b _ => b.elim) (fun _ => hno (fun k => nf bx k.2.1))
theorem xf_fit {post : Int32 → Prop} {c : Nat} (C : rx_C n L tab mk us rl fi se th asm T R X Y Z AS) (hD : rx_Dm n dom D) (hc : c < L)
    (h : ∀ f, f < 256 → (∀ t, f.testBit t = true ↔ rn_Fit D (X c) (Y c) (Z c) (T (R c)) t) → post (nI f)) : wpX_fitting post ((nI n), (nI L), sk, cl, fd, tab, mk, us, rl, fi, se, th, asm, dom, sv, tr, tu, fo, ro) (nI c) := by
  have hn := C.1
  obtain ⟨hx, hy, hz⟩ := rx_X C hc
  have hR := rx_R C hc
  have hT := rx_T C hR
  have vi : vp_in (nI c) 20 := vp_in_nI (by omega) (by decide)
  refine And.intro vi (nm_r (rx_fi C hc) (And.intro vi (nm_r (rx_se C hc) (And.intro vi (nm_r (rx_th C hc) (And.intro vi (And.intro (by rw [rx_rl C hc]; exact vp_in_nI hR (by decide)) (nm_r (rx_tt C hc) ?_))))))))
  generalize X c = x at *
  generalize Y c = y at *
  generalize Z c = z at *
  generalize T (R c) = Tn at *
  refine loop_0 (fun q t (s : Int32) => wX_fitting_41 post (nI x) (nI y) (nI z) (nI Tn) (nI n) (nI L) sk cl fd tab mk us rl fi se th asm dom sv tr tu fo ro q s (nI t)) (fun t s => ∃ a : Nat, s = nI a ∧ a < 2 ^ t ∧ ∀ j, a.testBit j = true ↔ (j < t ∧ rn_Fit D x y z Tn j)) 8 0
    ⟨0, rfl, by decide, fun j => ⟨fun q => by rw [Nat.zero_testBit] at q; exact absurd q (by decide), fun q => absurd q.1 (by omega)⟩⟩ ?_ ?_
  · rintro q s ⟨a, rfl, hl, ha⟩
    exact br_t (by decide) (h a hl (fun t => (ha t).trans ⟨fun q => q.2, fun q => ⟨q.1, q⟩⟩))
  · rintro q t s ht ⟨a, rfl, hl, ha⟩ K
    have p2 : (2 : Nat) ^ (t + 1) = 2 * 2 ^ t := by rw [Nat.pow_succ]; omega
    obtain ⟨t2, t1, t0⟩ := rb_t3 t ht
    have Ky : rn_Fit D x y z Tn t → wX_fitting_41 post (nI x) (nI y) (nI z) (nI Tn) (nI n) (nI L) sk cl fd tab mk us rl fi se th asm dom sv tr tu fo ro q (nI (a ||| 2 ^ t)) (nI (t + 1)) := by
      intro hf
      refine K _ ⟨_, rfl, ?_, fun j => ?_⟩
      · exact Nat.or_lt_two_pow (by omega) (by rw [p2]; have := Nat.two_pow_pos t; omega)
      · rw [Nat.testBit_or, Nat.testBit_two_pow, Bool.or_eq_true, ha j, decide_eq_true_eq]
        constructor
        · rintro (g | g)
          · exact ⟨by omega, g.2⟩
          · exact ⟨by omega, g ▸ hf⟩
        · rintro ⟨g, g'⟩
          by_cases e : t = j
          · exact Or.inr e
          · exact Or.inl ⟨by omega, g'⟩
    have Kn : ¬ rn_Fit D x y z Tn t → wX_fitting_41 post (nI x) (nI y) (nI z) (nI Tn) (nI n) (nI L) sk cl fd tab mk us rl fi se th asm dom sv tr tu fo ro q (nI a) (nI (t + 1)) := by
      intro hf
      refine K _ ⟨a, rfl, by omega, fun j => ?_⟩
      rw [ha j]
      constructor
      · exact fun g => ⟨by omega, g.2⟩
      · rintro ⟨g, g'⟩
        by_cases e : j = t
        · rw [e] at g'; exact absurd g' hf
        · exact ⟨by omega, g'⟩
    generalize hJ : wX_fitting_41 post (nI x) (nI y) (nI z) (nI Tn) (nI n) (nI L) sk cl fd tab mk us rl fi se th asm dom sv tr tu fo ro q = J at Ky Kn
    have e9 : (nI t >>> ((1 : Int32) &&& 31)) &&& 1 = nI (t.testBit 1).toNat := by
      rw [show nI t >>> ((1 : Int32) &&& 31) = nI (t >>> 1) from rb_shr (k := 1) (by omega) (by decide), ← t1]
      exact rb_and _ 1
    have e8 : nI t >>> ((2 : Int32) &&& 31) = nI (t.testBit 2).toNat := by
      rw [← t2]; exact rb_shr (k := 2) (by omega) (by decide)
    have e10 : nI t &&& 1 = nI (t.testBit 0).toNat := by
      rw [← t0]; exact rb_and _ 1
    have b2 := rb_lt (t.testBit 2)
    have b1 := rb_lt (t.testBit 1)
    have b0 := rb_lt (t.testBit 0)
    refine br_f (nI_ge (b := 8) ht (by decide)) (nm_r e8 (nm_r e9 (nm_r e10 ?_)))
    rw [hJ]
    have w0 : ¬ ((x = y → t.testBit 2 = t.testBit 1) ∧ (x = z → t.testBit 2 = t.testBit 0) ∧ (y = z → t.testBit 1 = t.testBit 0)) →
        wX_fitting_110 post J (nI x) (nI y) (nI z) (nI Tn) (nI a) (nI t) (nI (t.testBit 2).toNat) (nI (t.testBit 1).toNat) (nI (t.testBit 0).toNat) (nI n) (nI L) sk cl fd tab mk us rl fi se th asm dom sv tr tu fo ro := by
      intro g
      unfold wX_fitting_110
      exact xf_111 (P := False) hD hn.2.1 hx hy hz hT ht b2 b1 b0 (rt_f id).symm (fun f => f.elim) (fun _ => Kn (fun f => g ⟨f.2.1, f.2.2.1, f.2.2.2.1⟩))
    have w1 : (x = y → t.testBit 2 = t.testBit 1) → (x = z → t.testBit 2 = t.testBit 0) → (y = z → t.testBit 1 = t.testBit 0) →
        wX_fitting_106 post J (nI x) (nI y) (nI z) (nI Tn) (nI a) (nI t) (nI (t.testBit 2).toNat) (nI (t.testBit 1).toNat) (nI (t.testBit 0).toNat) (nI n) (nI L) sk cl fd tab mk us rl fi se th asm dom sv tr tu fo ro := by
      intro g1 g2 g3
      unfold wX_fitting_106
      exact xf_111 (P := True) hD hn.2.1 hx hy hz hT ht b2 b1 b0 (rt_t trivial).symm (fun _ p q r s => Ky ⟨ht, g1, g2, g3, p, q, r, s⟩) (fun g => Kn (fun f => g ⟨trivial, f.2.2.2.2⟩))
    have w93 : (x = y → t.testBit 2 = t.testBit 1) → (x = z → t.testBit 2 = t.testBit 0) →
        wX_fitting_93 post J (nI x) (nI y) (nI z) (nI Tn) (nI a) (nI t) (nI (t.testBit 2).toNat) (nI (t.testBit 1).toNat) (nI (t.testBit 0).toNat) (nI n) (nI L) sk cl fd tab mk us rl fi se th asm dom sv tr tu fo ro := by
      intro g1 g2
      unfold wX_fitting_93
      exact pk_eq y z (fun e => pk_eq _ _ (fun e' => w1 g1 g2 (fun _ => rb_inj e')) (fun e' => w0 (fun g => e' (by rw [g.2.2 e])))) (fun e => w1 g1 g2 (fun g => absurd g e))
    have w80 : (x = y → t.testBit 2 = t.testBit 1) →
        wX_fitting_80 post J (nI x) (nI y) (nI z) (nI Tn) (nI a) (nI t) (nI (t.testBit 2).toNat) (nI (t.testBit 1).toNat) (nI (t.testBit 0).toNat) (nI n) (nI L) sk cl fd tab mk us rl fi se th asm dom sv tr tu fo ro := by
      intro g1
      unfold wX_fitting_80
      exact pk_eq x z (fun e => pk_eq _ _ (fun e' => w93 g1 (fun _ => rb_inj e')) (fun e' => w0 (fun g => e' (by rw [g.2.1 e])))) (fun e => w93 g1 (fun g => absurd g e))
    exact pk_eq x y (fun e => pk_eq _ _ (fun e' => w80 (fun _ => rb_inj e')) (fun e' => w0 (fun g => e' (by rw [g.1 e])))) (fun e => w80 (fun g => absurd g e))
theorem xw_127 {post : Int32 → SX → Prop} {i : Int32} {x y z b : Nat} (hi : i = 0 ∨ i = 1) (hD : rx_Dm n dom D) (h8 : n ≤ 8) (hx : x < n) (hy : y < n) (hz : z < n) (hb : b < 64)
    (h0 : b = D x + D y * 4 + D z * 16 → post 0 ((nI n), (nI L), sk, i, fd, tab, mk, us, rl, fi, se, th, asm, dom, sv, tr, tu, fo, ro)) (h1 : b ≠ D x + D y * 4 + D z * 16 → post 1 ((nI n), (nI L), sk, i, fd, tab, mk, us, rl, fi, se, th, asm, dom, sv, tr, tu, fo, ro)) : wX_narrow_127 post (nI x) (nI y) (nI z) (nI b) i (nI n) (nI L) sk cl fd tab mk us rl fi se th asm dom sv tr tu fo ro := by
  have dx := (hD x hx).1
  have dy := (hD y hy).1
  have dz := (hD z hz).1
  have e : (dom (nI x).toNatClampNeg + dom (nI y).toNatClampNeg * 4) + dom (nI z).toNatClampNeg * 16 = nI (D x + D y * 4 + D z * 16) := by
    rw [rx_dm hD hx h8, rx_dm hD hy h8, rx_dm hD hz h8, show nI (D y) * 4 = nI (D y * 4) from pk_mul _ 4, show nI (D z) * 16 = nI (D z * 16) from pk_mul _ 16, nI_add, nI_add]
  have na : narrow .boolean (.int i) = .int i ∧ fits .boolean (.int i) = true := by
    rcases hi with rfl | rfl
    · exact ⟨rfl, by decide⟩
    · exact ⟨rfl, by decide⟩
  unfold wX_narrow_127
  rw [e]
  exact ⟨na.1, na.2, vp_in_nI (by omega) (by decide), vp_in_nI (by omega) (by decide), vp_in_nI (by omega) (by decide), pk_eq b _ h0 h1⟩
theorem xw_and {x s v k : Nat} : (rx_up D x (D x &&& s) v).testBit k = true ↔ ((D v).testBit k = true ∧ (v = x → s.testBit k = true)) := by
  by_cases e : v = x
  · rw [e, rx_up_s, Nat.testBit_and, Bool.and_eq_true]
    exact ⟨fun q => ⟨q.1, fun _ => q.2⟩, fun q => ⟨q.1, q.2 rfl⟩⟩
  · rw [rx_up_n e]
    exact ⟨fun q => ⟨q, fun g => absurd g e⟩, fun q => q.1⟩
theorem xw_and4 {a b : Nat} (h : a < 4) : a &&& b < 4 := Nat.lt_of_le_of_lt Nat.and_le_left h
theorem xw_nar {post : Int32 → SX → Prop} {c : Nat} (C : rx_C n L tab mk us rl fi se th asm T R X Y Z AS) (hD : rx_Dm n dom D) (hc : c < L)
    (h : ∀ dom' D', rx_Dm n dom' D' → (∀ v, n ≤ v → D' v = D v) → rn_Nar D D' (X c) (Y c) (Z c) (T (R c)) → post (rt_fl (D' ≠ D)) ((nI n), (nI L), sk, (rt_fl (¬ ∃ t, rn_Fit D (X c) (Y c) (Z c) (T (R c)) t)), fd, tab, mk, us, rl, fi, se, th, asm, dom', sv, tr, tu, fo, ro)) : wpX_narrow post ((nI n), (nI L), sk, cl, fd, tab, mk, us, rl, fi, se, th, asm, dom, sv, tr, tu, fo, ro) (nI c) := by
  have hn := C.1
  obtain ⟨hx, hy, hz⟩ := rx_X C hc
  have vi : vp_in (nI c) 20 := vp_in_nI (by omega) (by decide)
  have vx : vp_in (nI (X c)) 8 := vp_in_nI (by omega) (by decide)
  have vy : vp_in (nI (Y c)) 8 := vp_in_nI (by omega) (by decide)
  have vz : vp_in (nI (Z c)) 8 := vp_in_nI (by omega) (by decide)
  have dx := (hD _ hx).1
  have dy := (hD _ hy).1
  have dz := (hD _ hz).1
  have eb : (dom (nI (X c)).toNatClampNeg + dom (nI (Y c)).toNatClampNeg * 4) + dom (nI (Z c)).toNatClampNeg * 16 = nI (D (X c) + D (Y c) * 4 + D (Z c) * 16) := by
    rw [rx_dm hD hx hn.2.1, rx_dm hD hy hn.2.1, rx_dm hD hz hn.2.1, show nI (D (Y c)) * 4 = nI (D (Y c) * 4) from pk_mul _ 4, show nI (D (Z c)) * 16 = nI (D (Z c) * 16) from pk_mul _ 16, nI_add, nI_add]
  refine And.intro vi (nm_r (rx_fi C hc) (And.intro vi (nm_r (rx_se C hc) (And.intro vi (nm_r (rx_th C hc) (And.intro vx (And.intro vy (And.intro vz (nm_r eb (xf_fit C hD hc (fun f hf hF => ?_)))))))))))
  obtain ⟨s4, q4⟩ := xs_sh f hf 2 (by decide)
  obtain ⟨s2, q2⟩ := xs_sh f hf 1 (by decide)
  obtain ⟨s1, q1⟩ := xs_sh f hf 0 (by decide)
  refine And.intro vx (xs_shadow (w := 4) hf (by decide) (And.intro vx ?_))
  generalize hs4 : rb_fo (xs_g f 4) 0 8 = S4
  have q4' : ∀ b : Bool, S4.testBit b.toNat = true ↔ ∃ t, t < 8 ∧ f.testBit t = true ∧ t.testBit 2 = b := by rw [← hs4]; exact q4
  have D1 := rx_dm_up (v := X c) hD (xw_and4 (b := S4) dx)
  have dy1 := (D1 _ hy).1
  refine nm_r (e' := upd dom (X c) (nI (D (X c) &&& S4))) (by rw [nI_clamp (by omega), (hD _ hx).2, rb_and]) ?_
  refine And.intro vy (xs_shadow (w := 2) hf (by decide) (And.intro vy ?_))
  generalize hs2 : rb_fo (xs_g f 2) 0 8 = S2
  have q2' : ∀ b : Bool, S2.testBit b.toNat = true ↔ ∃ t, t < 8 ∧ f.testBit t = true ∧ t.testBit 1 = b := by rw [← hs2]; exact q2
  have D2 := rx_dm_up (v := Y c) D1 (xw_and4 (b := S2) dy1)
  have dz2 := (D2 _ hz).1
  refine nm_r (e' := upd (upd dom (X c) (nI (D (X c) &&& S4))) (Y c) (nI (rx_up D (X c) (D (X c) &&& S4) (Y c) &&& S2))) (by rw [nI_clamp (by omega), (D1 _ hy).2, rb_and]) ?_
  refine And.intro vz (xs_shadow (w := 1) hf (by decide) (And.intro vz ?_))
  generalize hs1 : rb_fo (xs_g f 1) 0 8 = S1
  have q1' : ∀ b : Bool, S1.testBit b.toNat = true ↔ ∃ t, t < 8 ∧ f.testBit t = true ∧ t.testBit 0 = b := by rw [← hs1]; exact q1
  have D3 := rx_dm_up (v := Z c) D2 (xw_and4 (b := S1) dz2)
  refine nm_r (e' := upd (upd (upd dom (X c) (nI (D (X c) &&& S4))) (Y c) (nI (rx_up D (X c) (D (X c) &&& S4) (Y c) &&& S2))) (Z c) (nI (rx_up (rx_up D (X c) (D (X c) &&& S4)) (Y c) (rx_up D (X c) (D (X c) &&& S4) (Y c) &&& S2) (Z c) &&& S1))) (by rw [nI_clamp (by omega), (D2 _ hz).2, rb_and]) ?_
  have sf : ∀ (S j : Nat) (b : Bool), (S.testBit b.toNat = true ↔ ∃ t, t < 8 ∧ f.testBit t = true ∧ t.testBit j = b) → (S.testBit b.toNat = true ↔ ∃ t, rn_Fit D (X c) (Y c) (Z c) (T (R c)) t ∧ t.testBit j = b) := by
    intro S j b q
    rw [q]
    exact ⟨fun ⟨t, _, a, e⟩ => ⟨t, (hF t).mp a, e⟩, fun ⟨t, a, e⟩ => ⟨t, a.1, (hF t).mpr a, e⟩⟩
  have nar : rn_Nar D (rx_up (rx_up (rx_up D (X c) (D (X c) &&& S4)) (Y c) (rx_up D (X c) (D (X c) &&& S4) (Y c) &&& S2)) (Z c) (rx_up (rx_up D (X c) (D (X c) &&& S4)) (Y c) (rx_up D (X c) (D (X c) &&& S4) (Y c) &&& S2) (Z c) &&& S1)) (X c) (Y c) (Z c) (T (R c)) := by
    intro v b
    rw [xw_and, xw_and, xw_and, sf S4 2 b (q4' b), sf S2 1 b (q2' b), sf S1 0 b (q1' b)]
    exact ⟨fun q => ⟨q.1.1.1, q.1.1.2, q.1.2, q.2⟩, fun q => ⟨⟨⟨q.1, q.2.1⟩, q.2.2.1⟩, q.2.2.2⟩⟩
  have same : ∀ v, v ≠ X c → v ≠ Y c → v ≠ Z c → (rx_up (rx_up (rx_up D (X c) (D (X c) &&& S4)) (Y c) (rx_up D (X c) (D (X c) &&& S4) (Y c) &&& S2)) (Z c) (rx_up (rx_up D (X c) (D (X c) &&& S4)) (Y c) (rx_up D (X c) (D (X c) &&& S4) (Y c) &&& S2) (Z c) &&& S1)) v = D v :=
    fun v a b d => by rw [rx_up_n d, rx_up_n b, rx_up_n a]
  have H := h _ _ D3 (fun v hv => same v (by omega) (by omega) (by omega)) nar
  generalize (rx_up (rx_up (rx_up D (X c) (D (X c) &&& S4)) (Y c) (rx_up D (X c) (D (X c) &&& S4) (Y c) &&& S2)) (Z c) (rx_up (rx_up D (X c) (D (X c) &&& S4)) (Y c) (rx_up D (X c) (D (X c) &&& S4) (Y c) &&& S2) (Z c) &&& S1)) = D' at H same D3 nar
  generalize (upd (upd (upd dom (X c) (nI (D (X c) &&& S4))) (Y c) (nI (rx_up D (X c) (D (X c) &&& S4) (Y c) &&& S2))) (Z c) (nI (rx_up (rx_up D (X c) (D (X c) &&& S4)) (Y c) (rx_up D (X c) (D (X c) &&& S4) (Y c) &&& S2) (Z c) &&& S1))) = dom' at H D3 ⊢
  have ex := (D3 _ hx).1
  have ey := (D3 _ hy).1
  have ez := (D3 _ hz).1
  have key : D (X c) + D (Y c) * 4 + D (Z c) * 16 = D' (X c) + D' (Y c) * 4 + D' (Z c) * 16 → D' = D := by
    intro q
    funext v
    by_cases a : v = X c
    · rw [a]; omega
    · by_cases b : v = Y c
      · rw [b]; omega
      · by_cases d : v = Z c
        · rw [d]; omega
        · exact same v a b d
  have fin : ∀ i : Int32, (i = 0 ∨ i = 1) → i = rt_fl (¬ ∃ t, rn_Fit D (X c) (Y c) (Z c) (T (R c)) t) →
      wX_narrow_127 post (nI (X c)) (nI (Y c)) (nI (Z c)) (nI (D (X c) + D (Y c) * 4 + D (Z c) * 16)) i (nI n) (nI L) sk cl fd tab mk us rl fi se th asm dom' sv tr tu fo ro := by
    intro i hi hi'
    refine xw_127 hi D3 hn.2.1 hx hy hz (by omega) (fun q => ?_) (fun q => ?_)
    · rw [rt_f (p := D' ≠ D) (fun g => g (key q)), ← hi'] at H; exact H
    · rw [rt_t (p := D' ≠ D) (fun g => q (by rw [g])), ← hi'] at H; exact H
  refine pk_eq f 0 (fun h0 => fin 1 (Or.inr rfl) ?_) (fun h0 => fin 0 (Or.inl rfl) ?_)
  · refine (rt_t ?_).symm
    rintro ⟨t, ft⟩
    have := (hF t).mpr ft
    rw [h0, Nat.zero_testBit] at this
    exact absurd this (by decide)
  · refine (rt_f ?_).symm
    intro g
    obtain ⟨t, ht⟩ := Nat.exists_testBit_of_ne_zero h0
    exact g ⟨t, (hF t).mp ht⟩
end
end
section
/-! filter -/
section
variable {n L : Nat} {sk cl fd : Int32} {tab mk us rl fi se th asm dom sv tr tu fo ro : Nat → Int32} {T R X Y Z AS D : Nat → Nat}
theorem xl_round {post : Int32 → SX → Prop} {J : Int32 → Int32 → Int32 → Int32 → Int32 → Int32 → (Nat → Int32) → (Nat → Int32) → (Nat → Int32) → (Nat → Int32) → (Nat → Int32) → (Nat → Int32) → (Nat → Int32) → (Nat → Int32) → (Nat → Int32) → (Nat → Int32) → (Nat → Int32) → (Nat → Int32) → (Nat → Int32) → (Nat → Int32) → Prop} {rd : Nat} (C : rx_C n L tab mk us rl fi se th asm T R X Y Z AS) (hD : rx_Dm n dom D) (hN : rn_Ne n D)
    (hF : ∀ cl' dom', (∀ e, ¬ rn_Sol n (rx_Ac L sk) (fun c => T (R c)) X Y Z D e) → post 0 ((nI n), (nI L), sk, cl', fd, tab, mk, us, rl, fi, se, th, asm, dom', sv, tr, tu, fo, ro))
    (hE : ∀ cl' dom', rx_Dm n dom' D → rn_Gac (rx_Ac L sk) (fun c => T (R c)) X Y Z D → post 1 ((nI n), (nI L), sk, cl', fd, tab, mk, us, rl, fi, se, th, asm, dom', sv, tr, tu, fo, ro))
    (hR : ∀ cl' dom' D', rx_Dm n dom' D' → rn_Le n (rx_Ac L sk) (fun c => T (R c)) X Y Z D D' → rn_op D' n < rn_op D n → J (nI (rd + 1)) (nI n) (nI L) sk cl' fd tab mk us rl fi se th asm dom' sv tr tu fo ro) :
    ∃ q, wX_filter_39 post J (nI rd) q 0 0 (nI n) (nI L) sk cl fd tab mk us rl fi se th asm dom sv tr tu fo ro := by
  have hn := C.1
  refine loop_0 (fun q c (s : Int32 × Int32 × (Nat → Int32)) => wX_filter_39 post J (nI rd) q s.1 (nI c) (nI n) (nI L) sk (s.2.1) fd tab mk us rl fi se th asm (s.2.2) sv tr tu fo ro)
    (fun c s => ∃ D1, rx_Dm n s.2.2 D1 ∧ rn_Le n (rx_Ac L sk) (fun c => T (R c)) X Y Z D D1 ∧ ((s.1 = 0 ∧ D1 = D ∧ ∀ c', c' < c → rx_Ac L sk c' → rn_Gc D (X c') (Y c') (Z c') (T (R c'))) ∨ (s.1 = 1 ∧ rn_op D1 n < rn_op D n)))
    L (0, cl, dom) ⟨D, hD, rn_le_rf hN, Or.inl ⟨rfl, rfl, fun c hc => absurd hc (by omega)⟩⟩ ?_ ?_
  · rintro q ⟨f, c1, d1⟩ ⟨D1, h1, h2, h3⟩
    refine br_t (nI_le (Nat.le_refl L) (by omega)) ?_
    rcases h3 with ⟨e, rfl, g⟩ | ⟨e, g⟩
    · have e' : f = 0 := e
      exact br_t e' (hE _ _ h1 (fun c hc => g c hc.1 hc))
    · have e' : f = 1 := e
      exact br_f (show ¬ f = 0 by rw [e']; decide) (nm_r (nI_1 rd) (hR _ _ D1 h1 h2 g))
  · rintro q c ⟨f, c1, d1⟩ hc ⟨D1, h1, h2, h3⟩ K
    have h1' : rx_Dm n d1 D1 := h1
    show wX_filter_39 post J (nI rd) (q + 1) f (nI c) (nI n) (nI L) sk c1 fd tab mk us rl fi se th asm d1 sv tr tu fo ro
    refine br_f (nI_ge hc (by omega)) (br_c (fun hs => nm_r (nI_1 c) (K (f, c1, d1) ⟨D1, h1, h2, ?_⟩)) (fun hs => ?_))
    · rcases h3 with ⟨e, e', g⟩ | g
      · refine Or.inl ⟨e, e', fun c' hc' ha => ?_⟩
        by_cases ec : c' = c
        · rw [ec] at ha; exact absurd hs ha.2
        · exact g c' (by omega) ha
      · exact Or.inr g
    · have ha : rx_Ac L sk c := ⟨hc, hs⟩
      refine xw_nar C h1' hc (fun d2 D2 m1 m0 m2 => ?_)
      have N1 : rn_Ne n D1 := h2.1
      by_cases hf : ∃ t, rn_Fit D1 (X c) (Y c) (Z c) (T (R c)) t
      · obtain ⟨t, ft⟩ := hf
        have l2 : rn_Le n (rx_Ac L sk) (fun c => T (R c)) X Y Z D1 D2 := rn_nar_le (rx_V C) ha N1 (fun v hv => (m1 v hv).1) m2 ft
        have l3 : rn_Le n (rx_Ac L sk) (fun c => T (R c)) X Y Z D D2 := rn_le_tr h2 l2
        have ec : rt_fl (¬ ∃ t, rn_Fit D1 (X c) (Y c) (Z c) (T (R c)) t) = 0 := rt_f (fun g => g ⟨t, ft⟩)
        rw [ec]
        have one : rn_op D2 n < rn_op D n → wX_filter_72 post J (wX_filter_39 post J (nI rd) q) (nI rd) (nI c) 1 (nI n) (nI L) sk 0 fd tab mk us rl fi se th asm d2 sv tr tu fo ro := fun g =>
          br_t rfl (nm_r (nI_1 c) (K (1, 0, d2) ⟨D2, m1, l3, Or.inr ⟨rfl, g⟩⟩))
        refine rt_if (fun hd => one ?_) (fun hd => ?_)
        · have : ∃ v, v < n ∧ D2 v ≠ D1 v := Classical.byContradiction fun g => hd (by
            funext v
            by_cases hv : v < n
            · exact Classical.byContradiction fun k => g ⟨v, hv, k⟩
            · exact m0 v (by omega))
          obtain ⟨v, hv, hne⟩ := this
          have s3 := rn_sub3 _ (N1 v hv).1 _ (l2.1 v hv).1 (l2.2.1 v hv)
          have := rn_op_lt (D := D1) (D' := D2) n (fun w hw => (rn_sub3 _ (N1 w hw).1 _ (l2.1 w hw).1 (l2.2.1 w hw)).1) hv (s3.2 hne (l2.1 v hv).2).1 (s3.2 hne (l2.1 v hv).2).2
          have := rn_le_op hN h2
          omega
        · have e2 : D2 = D1 := Classical.byContradiction hd
          subst e2
          rcases h3 with ⟨e, rfl, g⟩ | ⟨e, g⟩
          · have e' : f = 0 := e
            refine br_t e' (br_t rfl (nm_r (nI_1 c) (K (0, 0, d2) ⟨D2, m1, l3, Or.inl ⟨rfl, rfl, fun c' hc' ha' => ?_⟩⟩)))
            by_cases ec : c' = c
            · rw [ec]; exact rn_nar_gc m2 rfl
            · exact g c' (by omega) ha'
          · have e' : f = 1 := e
            exact br_f (by rw [e']; decide) (one g)
      · have ec : rt_fl (¬ ∃ t, rn_Fit D1 (X c) (Y c) (Z c) (T (R c)) t) = 1 := rt_t hf
        rw [ec]
        have no : ∀ e, ¬ rn_Sol n (rx_Ac L sk) (fun c => T (R c)) X Y Z D e := fun e he => rn_nar_no (rx_V C) ha m2 (fun t ft => hf ⟨t, ft⟩) e (h2.2.2 e he)
        have w : ∀ i : Int32, wX_filter_72 post J (wX_filter_39 post J (nI rd) q) (nI rd) (nI c) i (nI n) (nI L) sk 1 fd tab mk us rl fi se th asm d2 sv tr tu fo ro := fun i => br_f (by decide) (hF _ _ no)
        exact br_c (fun _ => br_c (fun _ => w 0) (fun _ => w 1)) (fun _ => w 1)
theorem xl_rounds {post : Int32 → SX → Prop} (C : rx_C n L tab mk us rl fi se th asm T R X Y Z AS)
    (hF : ∀ cl' dom', (∀ e, ¬ rn_Sol n (rx_Ac L sk) (fun c => T (R c)) X Y Z D e) → post 0 ((nI n), (nI L), sk, cl', fd, tab, mk, us, rl, fi, se, th, asm, dom', sv, tr, tu, fo, ro))
    (hE : ∀ cl' dom' D', rx_Dm n dom' D' → rn_Le n (rx_Ac L sk) (fun c => T (R c)) X Y Z D D' → rn_Gac (rx_Ac L sk) (fun c => T (R c)) X Y Z D' → post 1 ((nI n), (nI L), sk, cl', fd, tab, mk, us, rl, fi, se, th, asm, dom', sv, tr, tu, fo, ro)) :
    ∀ m q, m < q → ∀ (rd : Nat) (cl' : Int32) (dom' : Nat → Int32) (D' : Nat → Nat), rx_Dm n dom' D' → rn_Le n (rx_Ac L sk) (fun c => T (R c)) X Y Z D D' → rn_op D' n ≤ m → rd + m ≤ 17 →
    wX_filter_29 post q (nI rd) (nI n) (nI L) sk cl' fd tab mk us rl fi se th asm dom' sv tr tu fo ro := by
  intro m
  induction m with
  | zero =>
    intro q hq rd cl' dom' D' h1 h2 h3 h4
    obtain ⟨q, rfl⟩ : ∃ k, q = k + 1 := ⟨q - 1, by omega⟩
    refine br_f (nI_ge (b := 18) (by omega) (by decide)) (xl_round (D := D') C h1 h2.1 (fun c d g => hF c d (fun e he => g e (h2.2.2 e he))) (fun c d g1 g2 => hE c d D' g1 h2 g2) (fun c d D2 _ _ g => ?_))
    omega
  | succ m ih =>
    intro q hq rd cl' dom' D' h1 h2 h3 h4
    obtain ⟨q, rfl⟩ : ∃ k, q = k + 1 := ⟨q - 1, by omega⟩
    exact br_f (nI_ge (b := 18) (by omega) (by decide)) (xl_round (D := D') C h1 h2.1 (fun c d g => hF c d (fun e he => g e (h2.2.2 e he))) (fun c d g1 g2 => hE c d D' g1 h2 g2)
      (fun c d D2 g1 g2 g3 => ih q (by omega) (rd + 1) c d D2 g1 (rn_le_tr h2 g2) (by omega) (by omega)))
theorem xl_filter {post : Int32 → SX → Prop} (C : rx_C n L tab mk us rl fi se th asm T R X Y Z AS) (hD : rx_Dm n dom D)
    (hF : ∀ cl' dom', (∀ e, ¬ rn_Sol n (rx_Ac L sk) (fun c => T (R c)) X Y Z D e) → post 0 ((nI n), (nI L), sk, cl', fd, tab, mk, us, rl, fi, se, th, asm, dom', sv, tr, tu, fo, ro))
    (hE : ∀ cl' dom' D', rx_Dm n dom' D' → rn_Le n (rx_Ac L sk) (fun c => T (R c)) X Y Z D D' → rn_Gac (rx_Ac L sk) (fun c => T (R c)) X Y Z D' → post 1 ((nI n), (nI L), sk, cl', fd, tab, mk, us, rl, fi, se, th, asm, dom', sv, tr, tu, fo, ro)) : wpX_filter post ((nI n), (nI L), sk, cl, fd, tab, mk, us, rl, fi, se, th, asm, dom, sv, tr, tu, fo, ro) := by
  have hn := C.1
  show ∃ q, wX_filter_2 post (nI n) (nI L) sk cl fd tab mk us rl fi se th asm dom sv tr tu fo ro q 0
  refine loop_0 (fun q v (_ : Unit) => wX_filter_2 post (nI n) (nI L) sk cl fd tab mk us rl fi se th asm dom sv tr tu fo ro q (nI v)) (fun v _ => ∀ w, w < v → D w ≠ 0) n () (fun w hw => absurd hw (by omega)) ?_ ?_
  · intro q _ hs
    have ne : rn_Ne n D := fun v hv => ⟨(hD v hv).1, hs v hv⟩
    have := rn_op_le D n
    exact br_t (nI_le (Nat.le_refl n) (by omega)) ⟨9, xl_rounds C hF hE 8 9 (by omega) 0 cl dom D hD (rn_le_rf ne) (by omega) (by omega)⟩
  · intro q v _ hv hs K
    have d4 := (hD v hv).1
    refine br_f (nI_ge hv (by omega)) (And.intro (vp_in_nI (by omega) (by decide)) ?_)
    rw [rx_dm hD hv hn.2.1]
    refine pk_eq (D v) 0 (fun h0 => hF _ _ (fun e he => ?_)) (fun h0 => nm_r (nI_1 v) (K () (fun w hw => ?_)))
    · have := he.1 v hv
      rw [h0, Nat.zero_testBit] at this
      exact absurd this (by decide)
    · by_cases e : w = v
      · rw [e]; exact h0
      · exact hs w (by omega)
end
end
section
/-! closeLiterals -/
/-- the sixteen rows hold the matrix M -/
def xc_Rp (fo : Nat → Int32) (M : Nat → Nat → Prop) : Prop := ∀ k, k < 16 → ∃ w : Nat, w < 65536 ∧ fo k = nI w ∧ ∀ l, l < 16 → (w.testBit l = true ↔ M k l)
/-- the rows hold forbidden pairs whose respect is G -/
def xc_St (n : Nat) (fo : Nat → Int32) (G : (Nat → Bool) → Prop) : Prop :=
  ∃ F : Nat → Nat → Prop, (∀ a b, F a b → F b a) ∧ (∀ a b, F a b → a < 2 * n ∧ b < 2 * n) ∧ xc_Rp fo (fun k l => l = k ∨ F k (rs_ng l)) ∧ ∀ e, rs_Ok F e ↔ G e
theorem xc_rp_c {fo : Nat → Int32} {M M' : Nat → Nat → Prop} (h : xc_Rp fo M) (e : ∀ k l, k < 16 → l < 16 → (M k l ↔ M' k l)) : xc_Rp fo M' := by
  intro k hk
  obtain ⟨w, a, b, d⟩ := h k hk
  exact ⟨w, a, b, fun l hl => (d l hl).trans (e k l hk hl)⟩
theorem xc_st_c {n : Nat} {fo : Nat → Int32} {G G' : (Nat → Bool) → Prop} (h : xc_St n fo G) (e : ∀ a, G a ↔ G' a) : xc_St n fo G' := by
  obtain ⟨F, a, b, c, d⟩ := h
  exact ⟨F, a, b, c, fun x => (d x).trans (e x)⟩
theorem xc_rp_u {fo : Nat → Int32} {M : Nat → Nat → Prop} {p q : Nat} (h : xc_Rp fo M) (hq : q < 16) : xc_Rp (upd fo p (fo p ||| nI (2 ^ q))) (fun k l => M k l ∨ (k = p ∧ l = q)) := by
  intro k hk
  obtain ⟨w, a, b, d⟩ := h k hk
  by_cases e : k = p
  · subst e
    have hq2 : 2 ^ q < 2 ^ 16 := Nat.pow_lt_pow_right (by decide) hq
    refine ⟨w ||| 2 ^ q, Nat.or_lt_two_pow (n := 16) a hq2, by rw [pk_us, b, rb_or], fun l hl => ?_⟩
    rw [Nat.testBit_or, Nat.testBit_two_pow, Bool.or_eq_true, d l hl, decide_eq_true_eq]
    exact ⟨fun g => g.elim Or.inl (fun z => Or.inr ⟨rfl, z.symm⟩), fun g => g.elim Or.inl (fun z => Or.inr z.2.symm)⟩
  · refine ⟨w, a, by rw [pk_un e, b], fun l hl => (d l hl).trans ⟨Or.inl, fun g => g.elim id (fun z => absurd z.1 e)⟩⟩
section
variable {n L : Nat} {sk cl fd : Int32} {tab mk us rl fi se th asm dom sv tr tu fo ro : Nat → Int32} {T R X Y Z AS D : Nat → Nat}
theorem xc_forbid {post : SX → Prop} {p q : Nat} {G : (Nat → Bool) → Prop} (h8 : n ≤ 8) (hp : p < 2 * n) (hq : q < 2 * n) (h : xc_St n fo G)
    (K : ∀ fo', xc_St n fo' (fun e => G e ∧ ¬ (rs_tr e p ∧ rs_tr e q)) → post ((nI n), (nI L), sk, cl, fd, tab, mk, us, rl, fi, se, th, asm, dom, sv, tr, tu, fo', ro)) : wpX_forbid post ((nI n), (nI L), sk, cl, fd, tab, mk, us, rl, fi, se, th, asm, dom, sv, tr, tu, fo, ro) (nI p) (nI q) := by
  obtain ⟨F, f1, f2, f3, f4⟩ := h
  have np := rs_ng_lt hp
  have nq := rs_ng_lt hq
  have vp : vp_in (nI p) 16 := vp_in_nI (by omega) (by decide)
  have vq : vp_in (nI q) 16 := vp_in_nI (by omega) (by decide)
  have ex : ∀ k, k < 16 → (1 : Int32) <<< ((nI k ^^^ 1) &&& 31) = nI (2 ^ rs_ng k) := by
    intro k hk
    have := rs_ng_lt (p := k) (n := 8) (by omega)
    rw [show nI k ^^^ 1 = nI (k ^^^ 1) from rb_xor k 1, rs_ng_x k hk, rb_one (by omega)]
  have r1 := xc_rp_u (p := p) f3 (by omega : rs_ng q < 16)
  have r2 := xc_rp_u (p := q) r1 (by omega : rs_ng p < 16)
  refine And.intro vp (And.intro vp (nm_r (e' := upd fo p (fo p ||| nI (2 ^ rs_ng q))) (by rw [nI_clamp (by omega), ex q (by omega)]) (And.intro vq (And.intro vq
    (nm_r (e' := upd (upd fo p (fo p ||| nI (2 ^ rs_ng q))) q ((upd fo p (fo p ||| nI (2 ^ rs_ng q))) q ||| nI (2 ^ rs_ng p))) (by rw [nI_clamp (by omega), ex p (by omega)]) (K _ ?_))))))
  refine ⟨fun a b => F a b ∨ (a = p ∧ b = q) ∨ (a = q ∧ b = p), ?_, ?_, xc_rp_c r2 ?_, ?_⟩
  · rintro a b (g | ⟨rfl, rfl⟩ | ⟨rfl, rfl⟩)
    · exact Or.inl (f1 _ _ g)
    · exact Or.inr (Or.inr ⟨rfl, rfl⟩)
    · exact Or.inr (Or.inl ⟨rfl, rfl⟩)
  · rintro a b (g | ⟨rfl, rfl⟩ | ⟨rfl, rfl⟩)
    · exact f2 _ _ g
    · exact ⟨hp, hq⟩
    · exact ⟨hq, hp⟩
  · intro k l _ _
    show ((l = k ∨ F k (rs_ng l)) ∨ (k = p ∧ l = rs_ng q)) ∨ (k = q ∧ l = rs_ng p) ↔ (l = k ∨ (F k (rs_ng l) ∨ (k = p ∧ rs_ng l = q) ∨ (k = q ∧ rs_ng l = p)))
    rw [rs_ng_iff l q, rs_ng_iff l p]
    constructor
    · rintro (((g | g) | g) | g)
      · exact Or.inl g
      · exact Or.inr (Or.inl g)
      · exact Or.inr (Or.inr (Or.inl g))
      · exact Or.inr (Or.inr (Or.inr g))
    · rintro (g | g | g | g)
      · exact Or.inl (Or.inl (Or.inl g))
      · exact Or.inl (Or.inl (Or.inr g))
      · exact Or.inl (Or.inr g)
      · exact Or.inr g
  · intro e
    show _ ↔ (G e ∧ ¬ (rs_tr e p ∧ rs_tr e q))
    rw [← f4 e]
    constructor
    · exact fun g => ⟨fun a b z => g a b (Or.inl z), g p q (Or.inr (Or.inl ⟨rfl, rfl⟩))⟩
    · rintro ⟨g, g'⟩ a b (z | ⟨rfl, rfl⟩ | ⟨rfl, rfl⟩)
      · exact g a b z
      · exact g'
      · exact fun z => g' ⟨z.2, z.1⟩
theorem xc_outside {post : SX → Prop} {v : Nat} {G : (Nat → Bool) → Prop} (h8 : n ≤ 8) (hD : rx_Dm n dom D) (hv : v < n) (h : xc_St n fo G)
    (K : ∀ fo', xc_St n fo' (fun e => G e ∧ (D v).testBit (e v).toNat = true) → post ((nI n), (nI L), sk, cl, fd, tab, mk, us, rl, fi, se, th, asm, dom, sv, tr, tu, fo', ro)) : wpX_forbidOutside post ((nI n), (nI L), sk, cl, fd, tab, mk, us, rl, fi, se, th, asm, dom, sv, tr, tu, fo, ro) (nI v) := by
  have d4 := (hD v hv).1
  show ∃ q, wX_forbidOutside_2 post (nI v) q 0 (nI n) (nI L) sk cl fd tab mk us rl fi se th asm dom sv tr tu fo ro
  refine loop_0 (fun q k (s : Nat → Int32) => wX_forbidOutside_2 post (nI v) q (nI k) (nI n) (nI L) sk cl fd tab mk us rl fi se th asm dom sv tr tu s ro) (fun k s => xc_St n s (fun e => G e ∧ ∀ b : Bool, b.toNat < k → (D v).testBit b.toNat = false → e v ≠ b)) 2 fo
    (xc_st_c h (fun e => ⟨fun g => ⟨g, fun b hb => absurd hb (by omega)⟩, fun g => g.1⟩)) ?_ ?_
  · intro q s hs
    refine br_t (by decide) (K s (xc_st_c hs (fun e => ?_)))
    constructor
    · rintro ⟨g, g'⟩
      refine ⟨g, ?_⟩
      cases hb : (D v).testBit (e v).toNat
      · exact absurd rfl (g' (e v) (rb_lt _) hb)
      · rfl
    · rintro ⟨g, g'⟩
      refine ⟨g, fun b _ hb he => ?_⟩
      rw [he, hb] at g'
      exact absurd g' (by decide)
  · intro q k s hk hs K'
    have ek : (2 * nI v) + nI k = nI (2 * v + k) := by
      rw [show (2 : Int32) * nI v = nI (2 * v) from pk_mul 2 v, nI_add]
    obtain ⟨b, hb⟩ : ∃ b : Bool, b.toNat = k := by
      have : k = 0 ∨ k = 1 := by omega
      rcases this with e | e
      · exact ⟨false, e.symm⟩
      · exact ⟨true, e.symm⟩
    refine br_f (nI_ge (b := 2) hk (by decide)) (And.intro (vp_in_nI (by omega) (by decide)) (rb_hifE (D v) k (rx_dm hD hv h8) rfl (by omega) (by omega) (fun ht => nm_r (nI_1 k) (K' s ?_)) (fun ht => ?_)))
    · refine xc_st_c hs (fun e => ⟨fun g => ⟨g.1, fun c hc hf => ?_⟩, fun g => ⟨g.1, fun c hc hf => g.2 c (by omega) hf⟩⟩)
      by_cases ec : c.toNat = k
      · rw [ec, ht] at hf; exact absurd hf (by decide)
      · exact g.2 c (by omega) hf
    · rw [ek]
      refine xc_forbid h8 (by omega) (by omega) hs (fun fo' hs' => nm_r (nI_1 k) (K' fo' (xc_st_c hs' (fun e => ?_))))
      have tl := rs_tr_l e v b
      rw [hb] at tl
      rw [tl]
      constructor
      · rintro ⟨⟨g1, g2⟩, g3⟩
        refine ⟨g1, fun c hc hf he => ?_⟩
        by_cases ec : c.toNat = k
        · have : c = b := rb_inj (ec.trans hb.symm)
          rw [this] at he
          exact g3 ⟨he, he⟩
        · exact g2 c (by omega) hf he
      · rintro ⟨g1, g2⟩
        exact ⟨⟨g1, fun c hc hf => g2 c (by omega) hf⟩, fun z => g2 b (by omega) (by rw [hb]; exact ht) z.1⟩
def xc_seen (Tn i j : Nat) (a b : Bool) : Prop := ∃ t, t < 8 ∧ Tn.testBit t = true ∧ t.testBit i = a ∧ t.testBit j = b
theorem xc_pw : ∀ t, t < 8 → ∀ i, i < 3 → (t &&& 2 ^ i = 0 ↔ t.testBit i = false) ∧ t &&& 2 ^ i < 8 := by decide +kernel
theorem xc_k4 : ∀ k, k < 4 → k >>> 1 = (k.testBit 1).toNat ∧ k &&& 1 = (k.testBit 0).toNat := by decide +kernel
theorem xc_92 {post : SX → Prop} {J3 : Int32 → Int32 → Int32 → Int32 → Int32 → Int32 → (Nat → Int32) → (Nat → Int32) → (Nat → Int32) → (Nat → Int32) → (Nat → Int32) → (Nat → Int32) → (Nat → Int32) → (Nat → Int32) → (Nat → Int32) → (Nat → Int32) → (Nat → Int32) → (Nat → Int32) → (Nat → Int32) → (Nat → Int32) → Prop}
    {J : Int32 → Int32 → Prop} {P Q : Prop} {x2 x3 x4 x5 x6 x7 x8 o z : Int32} {Tn t : Nat} (hT : Tn < 256) (ht : t < 8) (ho : o = rt_fl P) (hz : z = rt_fl Q)
    (h : J (rt_fl (P ∨ (Q ∧ Tn.testBit t = true))) (nI (t + 1))) : wX_forbidPairs_92 post J3 J (nI Tn) x2 x3 x4 x5 x6 x7 x8 o (nI t) z (nI n) (nI L) sk cl fd tab mk us rl fi se th asm dom sv tr tu fo ro := by
  subst ho hz
  unfold wX_forbidPairs_92
  refine rt_if (fun hp => nm_r (nI_1 t) ?_) (fun hp => rt_if (fun hq => rb_hif (by omega) (by omega) (fun hb => nm_r (nI_1 t) ?_) (fun hb => nm_r (nI_1 t) ?_)) (fun hq => nm_r (nI_1 t) ?_))
  · rw [rt_t (Or.inl hp)] at h; exact h
  · rw [rt_t (Or.inr ⟨hq, hb⟩)] at h; exact h
  · rw [rt_f (fun g => g.elim hp (fun k => by rw [hb] at k; exact absurd k.2 (by decide)))] at h; exact h
  · rw [rt_f (fun g => g.elim hp (fun k => hq k.1))] at h; exact h
theorem xc_46 {post : SX → Prop} {J3 : Int32 → Int32 → Int32 → Int32 → Int32 → Int32 → (Nat → Int32) → (Nat → Int32) → (Nat → Int32) → (Nat → Int32) → (Nat → Int32) → (Nat → Int32) → (Nat → Int32) → (Nat → Int32) → (Nat → Int32) → (Nat → Int32) → (Nat → Int32) → (Nat → Int32) → (Nat → Int32) → (Nat → Int32) → Prop}
    {J : Int32 → Int32 → Prop} {P : Prop} {x2 x3 x5 x6 o : Int32} {Tn t j : Nat} {a b p : Bool} (hT : Tn < 256) (ht : t < 8) (hj : j < 3) (ho : o = rt_fl P)
    (h : J (rt_fl (P ∨ ((p = a ∧ t.testBit j = b) ∧ Tn.testBit t = true))) (nI (t + 1))) :
    wX_forbidPairs_46 post J3 J (nI Tn) x2 x3 (nI (2 ^ j)) x5 x6 (nI a.toNat) (nI b.toNat) o (nI t) (nI p.toNat) (nI n) (nI L) sk cl fd tab mk us rl fi se th asm dom sv tr tu fo ro := by
  have no : ¬ (p = a ∧ t.testBit j = b) → wX_forbidPairs_91 post J3 J (nI Tn) x2 x3 (nI (2 ^ j)) x5 x6 (nI a.toNat) (nI b.toNat) o (nI t) (nI n) (nI L) sk cl fd tab mk us rl fi se th asm dom sv tr tu fo ro := by
    intro g
    unfold wX_forbidPairs_91
    exact xc_92 (Q := p = a ∧ t.testBit j = b) hT ht ho (rt_f g).symm h
  have yes : p = a ∧ t.testBit j = b → wX_forbidPairs_92 post J3 J (nI Tn) x2 x3 (nI (2 ^ j)) x5 x6 (nI a.toNat) (nI b.toNat) o (nI t) 1 (nI n) (nI L) sk cl fd tab mk us rl fi se th asm dom sv tr tu fo ro := by
    intro g
    exact xc_92 (Q := p = a ∧ t.testBit j = b) hT ht ho (rt_t g).symm h
  have w84 : p = a → ∀ (r : Bool), r = t.testBit j → ∀ y : Int32, y = nI b.toNat → wX_forbidPairs_84 post J3 J (nI Tn) x2 x3 (nI (2 ^ j)) x5 x6 (nI a.toNat) (nI b.toNat) o (nI t) y (nI r.toNat) (nI n) (nI L) sk cl fd tab mk us rl fi se th asm dom sv tr tu fo ro := by
    intro g r hr y hy
    subst hy
    have l1 := rb_lt r
    have l2 := rb_lt b
    exact pk_eq r.toNat b.toNat (fun z => yes ⟨g, hr.symm.trans (rb_inj z)⟩) (fun z => no (fun k => z (by rw [hr, k.2])))
  have w73 : p = a → ∀ (r : Bool), r = t.testBit j → wX_forbidPairs_73 post J3 J (nI Tn) x2 x3 (nI (2 ^ j)) x5 x6 (nI a.toNat) (nI b.toNat) o (nI t) (nI r.toNat) (nI n) (nI L) sk cl fd tab mk us rl fi se th asm dom sv tr tu fo ro := by
    intro g r hr
    have l2 := rb_lt b
    refine pk_eq b.toNat 1 (fun z => w84 g r hr 1 ?_) (fun z => w84 g r hr 0 ?_)
    · rw [z]; rfl
    · rw [show b.toNat = 0 by omega]; rfl
  have w57 : ∀ y : Int32, y = nI a.toNat → wX_forbidPairs_57 post J3 J (nI Tn) x2 x3 (nI (2 ^ j)) x5 x6 (nI a.toNat) (nI b.toNat) o (nI t) y (nI p.toNat) (nI n) (nI L) sk cl fd tab mk us rl fi se th asm dom sv tr tu fo ro := by
    intro y hy
    subst hy
    have l1 := rb_lt p
    have l2 := rb_lt a
    refine pk_eq p.toNat a.toNat (fun z => ?_) (fun z => no (fun k => z (by rw [k.1])))
    obtain ⟨pw, pl⟩ := xc_pw t ht j hj
    rw [rb_and]
    refine pk_eq (t &&& 2 ^ j) 0 (fun g => w73 (rb_inj z) false ?_) (fun g => w73 (rb_inj z) true ?_)
    · exact (pw.mp g).symm
    · cases hb : t.testBit j
      · exact absurd (pw.mpr hb) g
      · rfl
  have l2 := rb_lt a
  refine pk_eq a.toNat 1 (fun z => w57 1 ?_) (fun z => w57 0 ?_)
  · rw [z]; rfl
  · rw [show a.toNat = 0 by omega]; rfl
theorem xc_pairs {post : SX → Prop} {Tn i j u v : Nat} {G : (Nat → Bool) → Prop} (h8 : n ≤ 8) (hT : Tn < 256) (hi : i < 3) (hj : j < 3) (hu : u < n) (hv : v < n) (h : xc_St n fo G)
    (K : ∀ fo', xc_St n fo' (fun e => G e ∧ xc_seen Tn i j (e u) (e v)) → post ((nI n), (nI L), sk, cl, fd, tab, mk, us, rl, fi, se, th, asm, dom, sv, tr, tu, fo', ro)) : wpX_forbidPairs post ((nI n), (nI L), sk, cl, fd, tab, mk, us, rl, fi, se, th, asm, dom, sv, tr, tu, fo, ro) (nI Tn) (nI (2 ^ i)) (nI u) (nI (2 ^ j)) (nI v) := by
  show ∃ q, wX_forbidPairs_3 post (nI Tn) (nI (2 ^ i)) (nI u) (nI (2 ^ j)) (nI v) q 0 (nI n) (nI L) sk cl fd tab mk us rl fi se th asm dom sv tr tu fo ro
  refine loop_0 (fun q k (s : Nat → Int32) => wX_forbidPairs_3 post (nI Tn) (nI (2 ^ i)) (nI u) (nI (2 ^ j)) (nI v) q (nI k) (nI n) (nI L) sk cl fd tab mk us rl fi se th asm dom sv tr tu s ro)
    (fun k s => xc_St n s (fun e => G e ∧ ∀ k', k' < k → e u = k'.testBit 1 → e v = k'.testBit 0 → xc_seen Tn i j (k'.testBit 1) (k'.testBit 0))) 4 fo
    (xc_st_c h (fun e => ⟨fun g => ⟨g, fun b hb => absurd hb (by omega)⟩, fun g => g.1⟩)) ?_ ?_
  · intro q s hs
    refine br_t (by decide) (K s (xc_st_c hs (fun e => ?_)))
    constructor
    · rintro ⟨g, g'⟩
      refine ⟨g, ?_⟩
      have key : ∀ a b : Bool, ∃ k', k' < 4 ∧ k'.testBit 1 = a ∧ k'.testBit 0 = b := by decide
      obtain ⟨k', h1, h2, h3⟩ := key (e u) (e v)
      have := g' k' h1 h2.symm h3.symm
      rw [h2, h3] at this; exact this
    · rintro ⟨g, g'⟩
      exact ⟨g, fun k' _ h1 h2 => by rw [h1, h2] at g'; exact g'⟩
  · intro q k s hk hs K'
    obtain ⟨k1, k0⟩ := xc_k4 k hk
    generalize ha : k.testBit 1 = a at k1
    generalize hb : k.testBit 0 = b at k0
    have la := rb_lt a
    have lb := rb_lt b
    have e1 : nI k >>> ((1 : Int32) &&& 31) = nI a.toNat := by rw [← k1]; exact rb_shr (k := 1) (by omega) (by decide)
    have e0 : nI k &&& 1 = nI b.toNat := by rw [← k0]; exact rb_and k 1
    have step : ∀ s', xc_St n s' (fun e => (G e ∧ ∀ k', k' < k → e u = k'.testBit 1 → e v = k'.testBit 0 → xc_seen Tn i j (k'.testBit 1) (k'.testBit 0)) ∧ (e u = a → e v = b → xc_seen Tn i j a b)) →
        wX_forbidPairs_3 post (nI Tn) (nI (2 ^ i)) (nI u) (nI (2 ^ j)) (nI v) q (nI (k + 1)) (nI n) (nI L) sk cl fd tab mk us rl fi se th asm dom sv tr tu s' ro := by
      intro s' hs'
      refine K' s' (xc_st_c hs' (fun e => ?_))
      constructor
      · rintro ⟨⟨g1, g2⟩, g3⟩
        refine ⟨g1, fun k' hk' h1 h2 => ?_⟩
        by_cases ek : k' = k
        · rw [ek] at h1 h2 ⊢
          rw [ha] at h1 ⊢
          rw [hb] at h2 ⊢
          exact g3 h1 h2
        · exact g2 k' (by omega) h1 h2
      · rintro ⟨g1, g2⟩
        refine ⟨⟨g1, fun k' hk' => g2 k' (by omega)⟩, fun h1 h2 => ?_⟩
        have := g2 k (by omega) (by rw [ha]; exact h1) (by rw [hb]; exact h2)
        rw [ha, hb] at this; exact this
    refine br_f (nI_ge (b := 4) hk (by decide)) (nm_r e1 (nm_r e0 ?_))
    generalize hJ : wX_forbidPairs_3 post (nI Tn) (nI (2 ^ i)) (nI u) (nI (2 ^ j)) (nI v) q = J3 at step
    refine loop_0 (fun q t (o : Int32) => wX_forbidPairs_27 post J3 (nI Tn) (nI (2 ^ i)) (nI u) (nI (2 ^ j)) (nI v) (nI k) (nI a.toNat) (nI b.toNat) (nI n) (nI L) sk cl fd tab mk us rl fi se th asm dom sv tr tu s ro q o (nI t))
      (fun t o => o = rt_fl (∃ t', t' < t ∧ (t'.testBit i = a ∧ t'.testBit j = b) ∧ Tn.testBit t' = true)) 8 0 (rt_f (fun ⟨t', h, _⟩ => absurd h (by omega))).symm ?_ ?_
    · rintro q o rfl
      have iff8 : (∃ t', t' < 8 ∧ (t'.testBit i = a ∧ t'.testBit j = b) ∧ Tn.testBit t' = true) ↔ xc_seen Tn i j a b :=
        ⟨fun ⟨t, x, y, z⟩ => ⟨t, x, z, y.1, y.2⟩, fun ⟨t, x, z, y1, y2⟩ => ⟨t, x, ⟨y1, y2⟩, z⟩⟩
      refine br_t (by decide) (rt_if (fun hq => nm_r (nI_1 k) (step s (xc_st_c hs (fun e => ⟨fun g => ⟨g, fun _ _ => iff8.mp hq⟩, fun g => g.1⟩)))) (fun hq => ?_))
      rw [show (2 : Int32) * nI u + nI a.toNat = nI (2 * u + a.toNat) by rw [show (2 : Int32) * nI u = nI (2 * u) from pk_mul 2 u, nI_add], show (2 : Int32) * nI v + nI b.toNat = nI (2 * v + b.toNat) by rw [show (2 : Int32) * nI v = nI (2 * v) from pk_mul 2 v, nI_add]]
      refine xc_forbid h8 (by omega) (by omega) hs (fun fo' hs' => nm_r (nI_1 k) (step fo' (xc_st_c hs' (fun e => ?_))))
      rw [rs_tr_l, rs_tr_l]
      exact ⟨fun g => ⟨g.1, fun h1 h2 => absurd ⟨h1, h2⟩ g.2⟩, fun g => ⟨g.1, fun z => hq (iff8.mpr (g.2 z.1 z.2))⟩⟩
    · rintro q t o ht rfl K''
      obtain ⟨pw, pl⟩ := xc_pw t ht i hi
      have Kt : wX_forbidPairs_27 post J3 (nI Tn) (nI (2 ^ i)) (nI u) (nI (2 ^ j)) (nI v) (nI k) (nI a.toNat) (nI b.toNat) (nI n) (nI L) sk cl fd tab mk us rl fi se th asm dom sv tr tu s ro q (rt_fl ((∃ t', t' < t ∧ (t'.testBit i = a ∧ t'.testBit j = b) ∧ Tn.testBit t' = true) ∨ ((t.testBit i = a ∧ t.testBit j = b) ∧ Tn.testBit t = true))) (nI (t + 1)) := by
        refine K'' _ (rt_c ⟨?_, ?_⟩)
        · rintro (⟨t', x, y⟩ | g)
          · exact ⟨t', by omega, y⟩
          · exact ⟨t, by omega, g⟩
        · rintro ⟨t', x, y⟩
          by_cases et : t' = t
          · rw [et] at y; exact Or.inr y
          · exact Or.inl ⟨t', by omega, y⟩
      refine br_f (nI_ge (b := 8) ht (by decide)) ?_
      rw [rb_and]
      refine pk_eq (t &&& 2 ^ i) 0 (fun g => xc_46 (p := false) (a := a) (b := b) hT ht hj rfl ?_) (fun g => xc_46 (p := true) (a := a) (b := b) hT ht hj rfl ?_)
      · rw [pw.mp g] at Kt; exact Kt
      · have : t.testBit i = true := by
          cases hb : t.testBit i
          · exact absurd (pw.mpr hb) g
          · rfl
        rw [this] at Kt; exact Kt
/-- one stage of the closure -/
theorem xc_stage {post : Int32 → SX → Prop} {J : Int32 → (Nat → Int32) → (Nat → Int32) → (Nat → Int32) → (Nat → Int32) → (Nat → Int32) → (Nat → Int32) → (Nat → Int32) → (Nat → Int32) → (Nat → Int32) → (Nat → Int32) → (Nat → Int32) → (Nat → Int32) → (Nat → Int32) → (Nat → Int32) → Prop}
    {m : Nat} {M : Nat → Nat → Prop} (hm : m < 16) (h : xc_Rp fo M) (K : ∀ fo', xc_Rp fo' (rs_stage M m) → J (nI (m + 1)) tab mk us rl fi se th asm dom sv tr tu fo' ro) :
    ∃ q, wX_closeLiterals_147 post J (nI m) (nI n) (nI L) sk cl fd q 0 tab mk us rl fi se th asm dom sv tr tu fo ro := by
  refine loop_0 (fun q k (s : Nat → Int32) => wX_closeLiterals_147 post J (nI m) (nI n) (nI L) sk cl fd q (nI k) tab mk us rl fi se th asm dom sv tr tu s ro) (fun k s => xc_Rp s (fun j l => M j l ∨ (j < k ∧ M j m ∧ M m l))) 16 fo
    (xc_rp_c h (fun k l _ _ => ⟨Or.inl, fun g => g.elim id (fun z => absurd z.1 (by omega))⟩)) ?_ ?_
  · intro q s hs
    exact br_t (by decide) (nm_r (nI_1 m) (K s (xc_rp_c hs (fun k l hk _ => ⟨fun g => g.elim Or.inl (fun z => Or.inr z.2), fun g => g.elim Or.inl (fun z => Or.inr ⟨hk, z⟩)⟩))))
  · intro q k s hk hs K'
    obtain ⟨w, w1, w2, w3⟩ := hs k hk
    obtain ⟨w', w1', w2', w3'⟩ := hs m hm
    have vk : vp_in (nI k) 16 := vp_in_nI hk (by decide)
    have vm : vp_in (nI m) 16 := vp_in_nI hm (by decide)
    have bk : ∀ l, l < 16 → (w.testBit l = true ↔ M k l) := fun l hl => (w3 l hl).trans ⟨fun g => g.elim id (fun z => absurd z.1 (by omega)), Or.inl⟩
    have bm : ∀ l, l < 16 → (w'.testBit l = true ↔ M m l) := fun l hl => (w3' l hl).trans ⟨fun g => g.elim id (fun z => z.2.2), Or.inl⟩
    refine br_f (nI_ge (b := 16) hk (by decide)) (And.intro vk (rb_hifE w m (by rw [nI_clamp (by omega)]; exact w2) rfl (by omega) (by omega) (fun hb => ?_) (fun hb => nm_r (nI_1 k) (K' s ?_))))
    · refine And.intro vk (And.intro vm (And.intro vk (nm_r (e' := upd s k (nI (w ||| w'))) (by rw [nI_clamp (by omega), nI_clamp (by omega), w2, w2', rb_or]) (nm_r (nI_1 k) (K' _ ?_)))))
      have mk := (bk m hm).mp hb
      intro j hj
      by_cases e : j = k
      · subst e
        refine ⟨w ||| w', Nat.or_lt_two_pow (n := 16) w1 w1', pk_us, fun l hl => ?_⟩
        rw [Nat.testBit_or, Bool.or_eq_true, bk l hl, bm l hl]
        exact ⟨fun g => g.elim Or.inl (fun z => Or.inr ⟨by omega, mk, z⟩), fun g => g.elim Or.inl (fun z => Or.inr z.2.2)⟩
      · obtain ⟨x, x1, x2, x3⟩ := hs j hj
        refine ⟨x, x1, by rw [pk_un e, x2], fun l hl => (x3 l hl).trans ⟨fun g => g.elim Or.inl (fun z => Or.inr ⟨by omega, z.2⟩), fun g => g.elim Or.inl (fun z => Or.inr ⟨by omega, z.2⟩)⟩⟩
    · have mk : ¬ M k m := fun g => by rw [(bk m hm).mpr g] at hb; exact absurd hb (by decide)
      refine xc_rp_c hs (fun j l hj hl => ⟨fun g => g.elim Or.inl (fun z => Or.inr ⟨by omega, z.2⟩), fun g => g.elim Or.inl (fun z => ?_)⟩)
      by_cases e : j = k
      · rw [e] at z; exact absurd z.2.1 mk
      · exact Or.inr ⟨by omega, z.2⟩
theorem xc_end {post : Int32 → SX → Prop} {M : Nat → Nat → Prop} (h8 : n ≤ 8) (h : xc_Rp fo M) (K : post (rt_fl (∀ v, v < n → ¬ (M (2 * v) (2 * v + 1) ∧ M (2 * v + 1) (2 * v)))) ((nI n), (nI L), sk, cl, fd, tab, mk, us, rl, fi, se, th, asm, dom, sv, tr, tu, fo, ro)) :
    ∃ q, wX_closeLiterals_199 post (nI n) (nI L) sk cl fd tab mk us rl fi se th asm dom sv tr tu fo ro q 0 := by
  refine loop_0 (fun q v (_ : Unit) => wX_closeLiterals_199 post (nI n) (nI L) sk cl fd tab mk us rl fi se th asm dom sv tr tu fo ro q (nI v)) (fun v _ => ∀ w, w < v → ¬ (M (2 * w) (2 * w + 1) ∧ M (2 * w + 1) (2 * w))) n () (fun w hw => absurd hw (by omega)) ?_ ?_
  · intro q _ hs
    rw [rt_t hs] at K
    exact br_t (nI_le (Nat.le_refl n) (by omega)) K
  · intro q v _ hv hs K'
    obtain ⟨w, w1, w2, w3⟩ := h (2 * v) (by omega)
    obtain ⟨w', w1', w2', w3'⟩ := h (2 * v + 1) (by omega)
    have e2 : (2 : Int32) * nI v = nI (2 * v) := pk_mul 2 v
    have next : ¬ (M (2 * v) (2 * v + 1) ∧ M (2 * v + 1) (2 * v)) → wX_closeLiterals_199 post (nI n) (nI L) sk cl fd tab mk us rl fi se th asm dom sv tr tu fo ro q (nI (v + 1)) := fun g => K' () (fun w hw => by
      by_cases e : w = v
      · rw [e]; exact g
      · exact hs w (by omega))
    refine br_f (nI_ge hv (by omega)) ?_
    rw [e2, show nI (2 * v) + 1 = nI (2 * v + 1) from nI_1 _]
    refine And.intro (vp_in_nI (by omega) (by decide)) (rb_hifE w (2 * v + 1) (by rw [nI_clamp (by omega)]; exact w2) rfl (by omega) (by omega) (fun hb => ?_) (fun hb => nm_r (nI_1 v) (next (fun g => ?_))))
    · refine And.intro (vp_in_nI (by omega) (by decide)) (rb_hifE w' (2 * v) (by rw [nI_clamp (by omega)]; exact w2') rfl (by omega) (by omega) (fun hb' => ?_) (fun hb' => nm_r (nI_1 v) (next (fun g => ?_))))
      · rw [rt_f (fun g => g v hv ⟨(w3 _ (by omega)).mp hb, (w3' _ (by omega)).mp hb'⟩)] at K; exact K
      · rw [(w3' _ (by omega)).mpr g.2] at hb'; exact absurd hb' (by decide)
    · rw [(w3 _ (by omega)).mpr g.1] at hb; exact absurd hb (by decide)
theorem xc_war {post : Int32 → SX → Prop} {G : (Nat → Bool) → Prop} (h8 : n ≤ 8) (h : xc_St n fo G) (K : ∀ fo', post (rt_fl (∃ e, G e)) ((nI n), (nI L), sk, cl, fd, tab, mk, us, rl, fi, se, th, asm, dom, sv, tr, tu, fo', ro)) :
    ∃ q, wX_closeLiterals_139 post (nI n) (nI L) sk cl fd q 0 tab mk us rl fi se th asm dom sv tr tu fo ro := by
  obtain ⟨F, f1, f2, f3, f4⟩ := h
  refine loop_0 (fun q m (s : Nat → Int32) => wX_closeLiterals_139 post (nI n) (nI L) sk cl fd q (nI m) tab mk us rl fi se th asm dom sv tr tu s ro) (fun m s => ∃ M, rs_War (fun p q => F p (rs_ng q)) M m ∧ xc_Rp s M) 16 fo ⟨_, rs_war_0, f3⟩ ?_ ?_
  · rintro q s ⟨M, hM, hR⟩
    refine br_t (by decide) (xc_end h8 hR ?_)
    have hE : ∀ k l, F k (rs_ng l) → l < 16 := fun k l g => by
      have := rs_ng_lt (f2 _ _ g).2
      rw [rs_ng_ng] at this; omega
    have e : (∀ v, v < n → ¬ (M (2 * v) (2 * v + 1) ∧ M (2 * v + 1) (2 * v))) ↔ ∃ e, G e := by
      have t := rs_two f1 f2
      rw [show (∃ e, G e) ↔ ∃ e, rs_Ok F e from ⟨fun ⟨e, g⟩ => ⟨e, (f4 e).mpr g⟩, fun ⟨e, g⟩ => ⟨e, (f4 e).mp g⟩⟩, t]
      constructor
      · exact fun g v hv z => g v hv ⟨(rs_war_end hE hM (by omega) (by omega)).mpr z.1, (rs_war_end hE hM (by omega) (by omega)).mpr z.2⟩
      · exact fun g v hv z => g v hv ⟨(rs_war_end hE hM (by omega) (by omega)).mp z.1, (rs_war_end hE hM (by omega) (by omega)).mp z.2⟩
    rw [rt_c e]
    exact K s
  · rintro q m s hm ⟨M, hM, hR⟩ K'
    exact br_f (nI_ge (b := 16) hm (by decide)) (xc_stage hm hR (fun s' hs' => K' s' ⟨_, rs_war_s hm hM, hs'⟩))
/-- what the pairs of constraint c leave -/
def xc_P (T R X Y Z : Nat → Nat) (c : Nat) (e : Nat → Bool) : Prop :=
  xc_seen (T (R c)) 2 1 (e (X c)) (e (Y c)) ∧ xc_seen (T (R c)) 2 0 (e (X c)) (e (Z c)) ∧ xc_seen (T (R c)) 1 0 (e (Y c)) (e (Z c))
theorem xc_close {post : Int32 → SX → Prop} (C : rx_C n L tab mk us rl fi se th asm T R X Y Z AS) (hD : rx_Dm n dom D)
    (K : ∀ fo', post (rt_fl (∃ e, rn_In n D e ∧ ∀ c, rx_Ac L sk c → xc_P T R X Y Z c e)) ((nI n), (nI L), sk, cl, fd, tab, mk, us, rl, fi, se, th, asm, dom, sv, tr, tu, fo', ro)) : wpX_closeLiterals post ((nI n), (nI L), sk, cl, fd, tab, mk, us, rl, fi, se, th, asm, dom, sv, tr, tu, fo, ro) := by
  have hn := C.1
  show ∃ q, wX_closeLiterals_2 post (nI n) (nI L) sk cl fd q 0 tab mk us rl fi se th asm dom sv tr tu fo ro
  refine loop_0 (fun q k (s : Nat → Int32) => wX_closeLiterals_2 post (nI n) (nI L) sk cl fd q (nI k) tab mk us rl fi se th asm dom sv tr tu s ro) (fun k s => ∀ j, j < k → s j = nI (2 ^ j)) 16 fo (fun j hj => absurd hj (by omega)) ?_ ?_
  · intro q s hs
    have st0 : xc_St n s (fun _ => True) := by
      refine ⟨fun _ _ => False, fun _ _ h => h, fun _ _ h => h.elim, ?_, fun e => ⟨fun _ => trivial, fun _ _ _ h => h.elim⟩⟩
      intro k hk
      have : 2 ^ k < 2 ^ 16 := Nat.pow_lt_pow_right (by decide) hk
      refine ⟨2 ^ k, this, hs k hk, fun l _ => ?_⟩
      rw [Nat.testBit_two_pow, decide_eq_true_eq]
      exact ⟨fun g => Or.inl g.symm, fun g => g.elim (fun z => z.symm) (fun z => z.elim)⟩
    refine br_t (by decide) (loop_0 (fun q v (s : Nat → Int32) => wX_closeLiterals_25 post q (nI v) (nI n) (nI L) sk cl fd tab mk us rl fi se th asm dom sv tr tu s ro) (fun v s => xc_St n s (fun e => ∀ w, w < v → (D w).testBit (e w).toNat = true)) n s
      (xc_st_c st0 (fun e => ⟨fun _ w hw => absurd hw (by omega), fun _ => trivial⟩)) ?_ ?_)
    · intro q s hs
      refine br_t (nI_le (Nat.le_refl n) (by omega)) (loop_0 (fun q c (s : Nat → Int32) => wX_closeLiterals_46 post q (nI c) (nI n) (nI L) sk cl fd tab mk us rl fi se th asm dom sv tr tu s ro) (fun c s => xc_St n s (fun e => rn_In n D e ∧ ∀ c', c' < c → rx_Ac L sk c' → xc_P T R X Y Z c' e)) L s
        (xc_st_c hs (fun e => ⟨fun g => ⟨g, fun c hc => absurd hc (by omega)⟩, fun g => g.1⟩)) ?_ ?_)
      · intro q s hs
        refine br_t (nI_le (Nat.le_refl L) (by omega)) (xc_war hn.2.1 hs (fun fo' => ?_))
        rw [show (∃ e, rn_In n D e ∧ ∀ c', c' < L → rx_Ac L sk c' → xc_P T R X Y Z c' e) ↔ (∃ e, rn_In n D e ∧ ∀ c, rx_Ac L sk c → xc_P T R X Y Z c e) from
          ⟨fun ⟨e, a, b⟩ => ⟨e, a, fun c hc => b c hc.1 hc⟩, fun ⟨e, a, b⟩ => ⟨e, a, fun c _ hc => b c hc⟩⟩]
        exact K fo'
      · intro q c s hc hs K'
        have vi : vp_in (nI c) 20 := vp_in_nI (by omega) (by decide)
        have hR := rx_R C hc
        have hT := rx_T C hR
        obtain ⟨hx, hy, hz⟩ := rx_X C hc
        refine br_f (nI_ge hc (by omega)) (br_c (fun he => nm_r (nI_1 c) (K' s (xc_st_c hs (fun e => ⟨fun g => ⟨g.1, fun c' hc' ha => ?_⟩, fun g => ⟨g.1, fun c' hc' => g.2 c' (by omega)⟩⟩)))) (fun he => ?_))
        · by_cases ec : c' = c
          · rw [ec] at ha; exact absurd he ha.2
          · exact g.2 c' (by omega) ha
        · refine And.intro vi (And.intro (by rw [rx_rl C hc]; exact vp_in_nI hR (by decide)) (nm_r (rx_tt C hc) (And.intro vi (And.intro vi ?_))))
          rw [rx_fi C hc, rx_se C hc]
          refine xc_pairs (i := 2) (j := 1) hn.2.1 hT (by decide) (by decide) hx hy hs (fun s1 h1 => And.intro vi (And.intro vi ?_))
          rw [rx_fi C hc, rx_th C hc]
          refine xc_pairs (i := 2) (j := 0) hn.2.1 hT (by decide) (by decide) hx hz h1 (fun s2 h2 => And.intro vi (And.intro vi ?_))
          rw [rx_se C hc, rx_th C hc]
          refine xc_pairs (i := 1) (j := 0) hn.2.1 hT (by decide) (by decide) hy hz h2 (fun s3 h3 => nm_r (nI_1 c) (K' s3 (xc_st_c h3 (fun e => ?_))))
          constructor
          · rintro ⟨⟨⟨⟨g1, g2⟩, g3⟩, g4⟩, g5⟩
            refine ⟨g1, fun c' hc' ha => ?_⟩
            by_cases ec : c' = c
            · rw [ec]; exact ⟨g3, g4, g5⟩
            · exact g2 c' (by omega) ha
          · rintro ⟨g1, g2⟩
            have g := g2 c (by omega) ⟨hc, he⟩
            exact ⟨⟨⟨⟨g1, fun c' hc' => g2 c' (by omega)⟩, g.1⟩, g.2.1⟩, g.2.2⟩
    · intro q v s hv hs K'
      refine br_f (nI_ge hv (by omega)) (xc_outside hn.2.1 hD hv hs (fun s' hs' => nm_r (nI_1 v) (K' s' (xc_st_c hs' (fun e => ?_)))))
      constructor
      · rintro ⟨g1, g2⟩ w hw
        by_cases ew : w = v
        · rw [ew]; exact g2
        · exact g1 w (by omega)
      · exact fun g => ⟨fun w hw => g w (by omega), g v (by omega)⟩
  · intro q k s hk hs K'
    refine br_f (nI_ge (b := 16) hk (by decide)) (And.intro (vp_in_nI hk (by decide)) (nm_r (e' := upd s k (nI (2 ^ k))) (by rw [nI_clamp (by omega), rb_one (by omega)]) (nm_r (nI_1 k) (K' _ (rx_ext (g := fun j => 2 ^ j) hs rfl)))))
end
end
section
/-! elimination modulo two -/
def xe_Rw (n : Nat) (ro : Nat → Int32) (W : Nat → Nat) : Prop := ∀ v, v < n → W v < 512 ∧ ro v = nI (W v)
theorem xe_b8 {n r : Nat} (h : ra_Shp n r) (hz : ∀ j, j < n → r.testBit j = false) (h0 : r ≠ 0) : r.testBit 8 = true := by
  obtain ⟨j, hj⟩ := Nat.exists_testBit_of_ne_zero h0
  by_cases e : j = 8
  · rw [← e]; exact hj
  · by_cases l : j < n
    · rw [hz j l] at hj; exact absurd hj (by decide)
    · rw [h.2 j (by omega) e] at hj; exact absurd hj (by decide)
theorem xe_put {n v r row : Nat} {W : Nat → Nat} (hv : v < n) (hE : ra_Ech n W) (h0 : W v = 0) (hS : ra_Shp n r) (hb : r.testBit v = true) (hl : ∀ j, j < v → r.testBit j = false)
    (hi : ∀ e, ra_All n W e → (ra_RS n r e ↔ ra_RS n row e)) : ra_Ech n (rx_up W v r) ∧ ∀ e, ra_All n (rx_up W v r) e ↔ (ra_All n W e ∧ ra_RS n row e) := by
  constructor
  · intro w hw
    by_cases e : w = v
    · rw [e, rx_up_s]; exact Or.inr ⟨hb, hl, hS⟩
    · rw [rx_up_n e]; exact hE w hw
  · intro e
    constructor
    · intro g
      have a : ra_All n W e := by
        intro w hw
        by_cases ew : w = v
        · rw [ew, h0]; exact ra_rs_0 n e
        · have := g w hw
          rw [rx_up_n ew] at this; exact this
      have b := g v hv
      rw [rx_up_s] at b
      exact ⟨a, (hi e a).mp b⟩
    · rintro ⟨a, b⟩ w hw
      by_cases ew : w = v
      · rw [ew, rx_up_s]; exact (hi e a).mpr b
      · rw [rx_up_n ew]; exact a w hw
section
variable {n L : Nat} {sk cl fd : Int32} {tab mk us rl fi se th asm dom sv tr tu fo ro : Nat → Int32} {T R X Y Z AS D : Nat → Nat}
theorem xe_join {post : Int32 → SX → Prop} {row : Nat} {W : Nat → Nat} (h8 : n ≤ 8) (hR : xe_Rw n ro W) (hE : ra_Ech n W) (hS : ra_Shp n row)
    (h1 : ∀ ro' W', xe_Rw n ro' W' → ra_Ech n W' → (∀ e, ra_All n W' e ↔ (ra_All n W e ∧ ra_RS n row e)) → post 1 ((nI n), (nI L), sk, cl, fd, tab, mk, us, rl, fi, se, th, asm, dom, sv, tr, tu, fo, ro'))
    (h0 : (∀ e, ¬ (ra_All n W e ∧ ra_RS n row e)) → post 0 ((nI n), (nI L), sk, cl, fd, tab, mk, us, rl, fi, se, th, asm, dom, sv, tr, tu, fo, ro)) : wpX_join post ((nI n), (nI L), sk, cl, fd, tab, mk, us, rl, fi, se, th, asm, dom, sv, tr, tu, fo, ro) (nI row) := by
  show ∃ q, wX_join_4 post (nI n) (nI L) sk cl fd tab mk us rl fi se th asm dom sv tr tu fo ro q (nI row) 0
  refine loop_0 (fun q v (s : Int32) => wX_join_4 post (nI n) (nI L) sk cl fd tab mk us rl fi se th asm dom sv tr tu fo ro q s (nI v)) (fun v s => ∃ r : Nat, s = nI r ∧ ra_Shp n r ∧ (∀ j, j < v → r.testBit j = false) ∧ ∀ e, ra_All n W e → (ra_RS n r e ↔ ra_RS n row e)) n (nI row)
    ⟨row, rfl, hS, fun j hj => absurd hj (by omega), fun e _ => Iff.rfl⟩ ?_ ?_
  · rintro q s ⟨r, rfl, r1, r2, r3⟩
    have rl := r1.1
    refine br_t (nI_le (Nat.le_refl n) (by omega)) (pk_eq r 0 (fun hz => h1 ro W hR hE (fun e => ⟨fun g => ⟨g, (r3 e g).mp (by rw [hz]; exact ra_rs_0 n e)⟩, fun g => g.1⟩)) (fun hz => h0 (fun e g => ?_)))
    have b := (r3 e g.1).mpr g.2
    unfold ra_RS at b
    rw [ra_pr_z n r2, xe_b8 r1 r2 hz] at b
    exact absurd b (by decide)
  · rintro q v s hv ⟨r, rfl, r1, r2, r3⟩ K
    have rl := r1.1
    have wl := (hR v hv).1
    have vv : vp_in (nI v) 8 := vp_in_nI (by omega) (by decide)
    refine br_f (nI_ge hv (by omega)) (rb_hif (by omega) (by omega) (fun hb => And.intro vv ?_) (fun hb => nm_r (nI_1 v) (K _ ⟨r, rfl, r1, fun j hj => ?_, r3⟩)))
    · rw [show ro (nI v).toNatClampNeg = nI (W v) by rw [nI_clamp (by omega)]; exact (hR v hv).2]
      refine pk_eq (W v) 0 (fun hz => And.intro vv (nm_r (e' := upd ro v (nI r)) (by rw [nI_clamp (by omega)]) ?_)) (fun hz => And.intro vv (nm_r (rb_xor r (W v)) (nm_r (nI_1 v) (K _ ⟨_, rfl, ⟨?_, ?_⟩, ?_, ?_⟩))))
      · obtain ⟨p1, p2⟩ := xe_put hv hE hz r1 hb r2 r3
        refine h1 _ _ (fun w hw => ?_) p1 p2
        by_cases ew : w = v
        · rw [ew, rx_up_s, pk_us]; exact ⟨rl, rfl⟩
        · rw [rx_up_n ew, pk_un ew]; exact hR w hw
      · exact Nat.xor_lt_two_pow (n := 9) rl wl
      · intro j g1 g2
        rcases hE v hv with z | ⟨_, _, z⟩
        · exact absurd z hz
        · rw [Nat.testBit_xor, r1.2 j g1 g2, z.2 j g1 g2]; rfl
      · intro j hj
        rcases hE v hv with z | ⟨z1, z2, _⟩
        · exact absurd z hz
        · by_cases ej : j = v
          · rw [ej, Nat.testBit_xor, hb, z1]; rfl
          · rw [Nat.testBit_xor, r2 j (by omega), z2 j (by omega)]; rfl
      · exact fun e g => (ra_rs_xor (g v hv)).trans (r3 e g)
    · by_cases ej : j = v
      · rw [ej]; exact hb
      · exact r2 j (by omega)
theorem xe_m4 : ∀ m, m < 8 → (m &&& 4 = 0 ↔ m.testBit 2 = false) ∧ (m &&& 2 = 0 ↔ m.testBit 1 = false) ∧ (m &&& 1 = 0 ↔ m.testBit 0 = false) ∧ m &&& 4 < 8 ∧ m &&& 2 < 8 ∧ m &&& 1 < 8 := by decide +kernel
/-- joinAll's masks -/
theorem xe_masks {post : Int32 → SX → Prop} {c Tn : Nat} {W : Nat → Nat} (C : rx_C n L tab mk us rl fi se th asm T R X Y Z AS) (hc : c < L) (hT : Tn < 256) (hT0 : Tn ≠ 0) (hR : xe_Rw n ro W) (hE : ra_Ech n W)
    (h1 : ∀ ro' W', xe_Rw n ro' W' → ra_Ech n W' → (∀ e, ra_All n W' e ↔ (ra_All n W e ∧ ∀ m, m < 8 → 0 < m → ra_kd Tn m ≠ 3 → ra_odd (rn_tri (e (X c)) (e (Y c)) (e (Z c)) &&& m) = ra_kd Tn m >>> 1)) → post 1 ((nI n), (nI L), sk, cl, fd, tab, mk, us, rl, fi, se, th, asm, dom, sv, tr, tu, fo, ro'))
    (h0 : ∀ ro', (∀ e, ¬ (ra_All n W e ∧ ∀ m, m < 8 → 0 < m → ra_kd Tn m ≠ 3 → ra_odd (rn_tri (e (X c)) (e (Y c)) (e (Z c)) &&& m) = ra_kd Tn m >>> 1)) → post 0 ((nI n), (nI L), sk, cl, fd, tab, mk, us, rl, fi, se, th, asm, dom, sv, tr, tu, fo, ro')) :
    ∃ q, wX_joinAll_20 post (nI c) (nI Tn) q 1 (nI n) (nI L) sk cl fd tab mk us rl fi se th asm dom sv tr tu fo ro := by
  have hn := C.1
  obtain ⟨hx, hy, hz⟩ := rx_X C hc
  have vi : vp_in (nI c) 20 := vp_in_nI (by omega) (by decide)
  refine pk_loop (fun q m (s : Nat → Int32) => wX_joinAll_20 post (nI c) (nI Tn) q (nI m) (nI n) (nI L) sk cl fd tab mk us rl fi se th asm dom sv tr tu fo s)
    (fun k s => 0 < k ∧ ∃ W', xe_Rw n s W' ∧ ra_Ech n W' ∧ ∀ e, ra_All n W' e ↔ (ra_All n W e ∧ ∀ m, m < k → 0 < m → ra_kd Tn m ≠ 3 → ra_odd (rn_tri (e (X c)) (e (Y c)) (e (Z c)) &&& m) = ra_kd Tn m >>> 1)) 8 1 ro (by decide)
    ⟨by decide, W, hR, hE, fun e => ⟨fun g => ⟨g, fun m a b => absurd a (by omega)⟩, fun g => g.1⟩⟩ ?_ ?_
  · rintro q s ⟨_, W', w1, w2, w3⟩
    exact br_t (by decide) (h1 s W' w1 w2 w3)
  · rintro q m s hm ⟨hm0, W', w1, w2, w3⟩ K
    obtain ⟨b2, b1, b0, l2, l1, l0⟩ := xe_m4 m hm
    obtain ⟨k4, k0⟩ := ra_kd_in Tn hT hT0 m hm
    refine br_f (nI_ge (b := 8) hm (by decide)) (xs_par hT hm (pk_eq (ra_kd Tn m) 3 (fun h3 => nm_r (nI_1 m) (K s ⟨by omega, W', w1, w2, fun e => ?_⟩)) (fun h3 => ?_)))
    · rw [w3 e]
      refine ⟨fun g => ⟨g.1, fun m' a b d => ?_⟩, fun g => ⟨g.1, fun m' a => g.2 m' (by omega)⟩⟩
      by_cases em : m' = m
      · rw [em] at d; exact absurd h3 d
      · exact g.2 m' (by omega) b d
    · have kk : ra_kd Tn m >>> 1 < 2 := by rw [Nat.shiftRight_eq_div_pow]; omega
      have e4 : (nI (ra_kd Tn m) >>> ((1 : Int32) &&& 31)) <<< ((8 : Int32) &&& 31) = nI ((ra_kd Tn m >>> 1) * 2 ^ 8) := by
        rw [show nI (ra_kd Tn m) >>> ((1 : Int32) &&& 31) = nI (ra_kd Tn m >>> 1) from rb_shr (k := 1) (by omega) (by decide)]
        exact rb_shl (k := 8) (by decide) (by omega)
      have j112 : wX_joinAll_112 post (wX_joinAll_20 post (nI c) (nI Tn) q) (nI c) (nI Tn) (nI m) (nI (ra_kd Tn m)) (nI (ra_row (X c) (Y c) (Z c) m)) (nI n) (nI L) sk cl fd tab mk us rl fi se th asm dom sv tr tu fo s := by
        unfold wX_joinAll_112
        rw [e4, rb_or]
        have gs := fun e => ra_gen (r := ra_row (X c) (Y c) (Z c) m) e hn.2.1 kk (ra_row_bit hx hy hz)
        have key : ∀ e : Nat → Bool, (ra_All n W' e ∧ ra_RS n (ra_row (X c) (Y c) (Z c) m ||| (ra_kd Tn m >>> 1) * 2 ^ 8) e) ↔
            (ra_All n W e ∧ ∀ m', m' < m + 1 → 0 < m' → ra_kd Tn m' ≠ 3 → ra_odd (rn_tri (e (X c)) (e (Y c)) (e (Z c)) &&& m') = ra_kd Tn m' >>> 1) := by
          intro e
          rw [(gs e).2, w3 e, ra_row_pr hx hy hz, ra_odd_tri m hm]
          constructor
          · rintro ⟨⟨g1, g2⟩, g3⟩
            refine ⟨g1, fun m' a b d => ?_⟩
            by_cases em : m' = m
            · rw [em]; exact g3
            · exact g2 m' (by omega) b d
          · rintro ⟨g1, g2⟩
            exact ⟨⟨g1, fun m' a => g2 m' (by omega)⟩, g2 m (by omega) (by omega) h3⟩
        refine xe_join hn.2.1 w1 w2 (gs (fun _ => false)).1 (fun ro' W2 a1 a2 a3 => br_f (by decide) (nm_r (nI_1 m) (K ro' ⟨by omega, W2, a1, a2, fun e => (a3 e).trans (key e)⟩))) (fun g => br_t rfl (h0 s (fun e he => g e ((key e).mpr ⟨he.1, fun m' a b d => he.2 m' (by omega) b d⟩))))
      have sh : ∀ {v : Nat}, v < n → (1 : Int32) <<< (nI v &&& 31) = nI (2 ^ v) := fun hv => rb_one (by omega)
      have j88 : wX_joinAll_88 post (wX_joinAll_20 post (nI c) (nI Tn) q) (nI c) (nI Tn) (nI m) (nI (ra_kd Tn m)) (nI ((if m.testBit 2 = true then 2 ^ X c else 0) ^^^ (if m.testBit 1 = true then 2 ^ Y c else 0))) (nI n) (nI L) sk cl fd tab mk us rl fi se th asm dom sv tr tu fo s := by
        unfold wX_joinAll_88
        rw [show nI m &&& 1 = nI (m &&& 1) from rb_and m 1]
        unfold ra_row at j112
        refine pk_eq (m &&& 1) 0 (fun h => ?_) (fun h => And.intro vi ?_)
        · rw [if_neg (c := m.testBit 0 = true) (by rw [b0.mp h]; decide), Nat.xor_zero] at j112; exact j112
        · have bt : m.testBit 0 = true := by
            cases hb : m.testBit 0
            · exact absurd (b0.mpr hb) h
            · rfl
          rw [if_pos (c := m.testBit 0 = true) bt] at j112
          rw [rx_th C hc, sh hz, rb_xor]; exact j112
      have j64 : wX_joinAll_64 post (wX_joinAll_20 post (nI c) (nI Tn) q) (nI c) (nI Tn) (nI m) (nI (ra_kd Tn m)) (nI (if m.testBit 2 = true then 2 ^ X c else 0)) (nI n) (nI L) sk cl fd tab mk us rl fi se th asm dom sv tr tu fo s := by
        unfold wX_joinAll_64
        rw [show nI m &&& 2 = nI (m &&& 2) from rb_and m 2]
        refine pk_eq (m &&& 2) 0 (fun h => ?_) (fun h => And.intro vi ?_)
        · rw [if_neg (c := m.testBit 1 = true) (by rw [b1.mp h]; decide), Nat.xor_zero] at j88; exact j88
        · have bt : m.testBit 1 = true := by
            cases hb : m.testBit 1
            · exact absurd (b1.mpr hb) h
            · rfl
          rw [if_pos (c := m.testBit 1 = true) bt] at j88
          rw [rx_se C hc, sh hy, rb_xor]; exact j88
      rw [show nI m &&& 4 = nI (m &&& 4) from rb_and m 4]
      refine pk_eq (m &&& 4) 0 (fun h => ?_) (fun h => And.intro vi ?_)
      · rw [if_neg (c := m.testBit 2 = true) (by rw [b2.mp h]; decide)] at j64; exact j64
      · have bt : m.testBit 2 = true := by
          cases hb : m.testBit 2
          · exact absurd (b2.mpr hb) h
          · rfl
        rw [if_pos (c := m.testBit 2 = true) bt] at j64
        rw [rx_fi C hc, sh hx, show (0 : Int32) ^^^ nI (2 ^ X c) = nI (0 ^^^ 2 ^ X c) from rb_xor 0 _, Nat.zero_xor]; exact j64
theorem xe_all {post : Int32 → SX → Prop} {c : Nat} {W : Nat → Nat} (C : rx_C n L tab mk us rl fi se th asm T R X Y Z AS) (hc : c < L) (hP : ra_PC (T (R c))) (hR : xe_Rw n ro W) (hE : ra_Ech n W)
    (h1 : ∀ ro' W', xe_Rw n ro' W' → ra_Ech n W' → (∀ e, ra_All n W' e ↔ (ra_All n W e ∧ (T (R c)).testBit (rn_tri (e (X c)) (e (Y c)) (e (Z c))) = true)) → post 1 ((nI n), (nI L), sk, cl, fd, tab, mk, us, rl, fi, se, th, asm, dom, sv, tr, tu, fo, ro'))
    (h0 : ∀ ro', (∀ e, ¬ (ra_All n W e ∧ (T (R c)).testBit (rn_tri (e (X c)) (e (Y c)) (e (Z c))) = true)) → post 0 ((nI n), (nI L), sk, cl, fd, tab, mk, us, rl, fi, se, th, asm, dom, sv, tr, tu, fo, ro')) : wpX_joinAll post ((nI n), (nI L), sk, cl, fd, tab, mk, us, rl, fi, se, th, asm, dom, sv, tr, tu, fo, ro) (nI c) := by
  have hn := C.1
  have vi : vp_in (nI c) 20 := vp_in_nI (by omega) (by decide)
  have hRc := rx_R C hc
  have hT := rx_T C hRc
  refine And.intro vi (And.intro (by rw [rx_rl C hc]; exact vp_in_nI hRc (by decide)) (nm_r (rx_tt C hc) (pk_eq (T (R c)) 0 (fun hz => h0 ro (fun e g => ?_)) (fun hz => ?_))))
  · have := g.2
    rw [hz, Nat.zero_testBit] at this
    exact absurd this (by decide)
  · have key : ∀ e : Nat → Bool, (∀ m, m < 8 → 0 < m → ra_kd (T (R c)) m ≠ 3 → ra_odd (rn_tri (e (X c)) (e (Y c)) (e (Z c)) &&& m) = ra_kd (T (R c)) m >>> 1) ↔ (T (R c)).testBit (rn_tri (e (X c)) (e (Y c)) (e (Z c))) = true :=
      fun e => (ra_aff hT hz hP (rn_tri_lt _ _ _)).symm
    refine xe_masks C hc hT hz hR hE (fun ro' W' a1 a2 a3 => h1 ro' W' a1 a2 (fun e => ?_)) (fun ro' a => h0 ro' (fun e => ?_))
    · rw [a3 e, key e]
    · rw [← key e]; exact a e
theorem xe_cons {post : Int32 → SX → Prop} {W : Nat → Nat} (C : rx_C n L tab mk us rl fi se th asm T R X Y Z AS) (hP : ∀ c, c < L → ra_PC (T (R c))) (hR : xe_Rw n ro W) (hE : ra_Ech n W) (hA : ∀ e, ra_All n W e ↔ rn_In n D e)
    (h1 : ∀ ro' W', xe_Rw n ro' W' → ra_Ech n W' → (∀ e, ra_All n W' e ↔ rn_Sol n (rx_Ac L sk) (fun c => T (R c)) X Y Z D e) → post 1 ((nI n), (nI L), sk, cl, fd, tab, mk, us, rl, fi, se, th, asm, dom, sv, tr, tu, fo, ro'))
    (h0 : ∀ ro', (∀ e, ¬ rn_Sol n (rx_Ac L sk) (fun c => T (R c)) X Y Z D e) → post 0 ((nI n), (nI L), sk, cl, fd, tab, mk, us, rl, fi, se, th, asm, dom, sv, tr, tu, fo, ro')) : ∃ q, wX_eliminate_84 post q 0 (nI n) (nI L) sk cl fd tab mk us rl fi se th asm dom sv tr tu fo ro := by
  have hn := C.1
  refine loop_0 (fun q c (s : Nat → Int32) => wX_eliminate_84 post q (nI c) (nI n) (nI L) sk cl fd tab mk us rl fi se th asm dom sv tr tu fo s)
    (fun c s => ∃ W', xe_Rw n s W' ∧ ra_Ech n W' ∧ ∀ e, ra_All n W' e ↔ (rn_In n D e ∧ ∀ c', c' < c → rx_Ac L sk c' → (T (R c')).testBit (rn_tri (e (X c')) (e (Y c')) (e (Z c'))) = true)) L ro
    ⟨W, hR, hE, fun e => (hA e).trans ⟨fun g => ⟨g, fun c hc => absurd hc (by omega)⟩, fun g => g.1⟩⟩ ?_ ?_
  · rintro q s ⟨W', w1, w2, w3⟩
    exact br_t (nI_le (Nat.le_refl L) (by omega)) (h1 s W' w1 w2 (fun e => (w3 e).trans ⟨fun g => ⟨g.1, fun c hc => g.2 c hc.1 hc⟩, fun g => ⟨g.1, fun c _ ha => g.2 c ha⟩⟩))
  · rintro q c s hc ⟨W', w1, w2, w3⟩ K
    refine br_f (nI_ge hc (by omega)) (br_c (fun hs => nm_r (nI_1 c) (K s ⟨W', w1, w2, fun e => (w3 e).trans ⟨fun g => ⟨g.1, fun c' hc' ha => ?_⟩, fun g => ⟨g.1, fun c' hc' => g.2 c' (by omega)⟩⟩⟩)) (fun hs => ?_))
    · by_cases ec : c' = c
      · rw [ec] at ha; exact absurd hs ha.2
      · exact g.2 c' (by omega) ha
    · refine xe_all C hc (hP c hc) w1 w2 (fun ro' W2 a1 a2 a3 => br_f (by decide) (nm_r (nI_1 c) (K ro' ⟨W2, a1, a2, fun e => ?_⟩))) (fun ro' a => br_t rfl (h0 ro' (fun e he => a e ⟨(w3 e).mpr ⟨he.1, fun c' _ ha => he.2 c' ha⟩, he.2 c ⟨hc, hs⟩⟩)))
      rw [a3 e, w3 e]
      constructor
      · rintro ⟨⟨g1, g2⟩, g3⟩
        refine ⟨g1, fun c' hc' ha => ?_⟩
        by_cases ec : c' = c
        · rw [ec]; exact g3
        · exact g2 c' (by omega) ha
      · rintro ⟨g1, g2⟩
        exact ⟨⟨g1, fun c' hc' => g2 c' (by omega)⟩, g2 c (by omega) ⟨hc, hs⟩⟩
theorem xe_d3 : ∀ d, d < 4 → d ≠ 0 → d ≠ 3 → d >>> 1 < 2 ∧ ∀ b : Bool, b.toNat = d >>> 1 ↔ d.testBit b.toNat = true := by decide +kernel
theorem xe_33 : ∀ b : Bool, (3 : Nat).testBit b.toNat = true := by decide
theorem xe_elim {post : Int32 → SX → Prop} (C : rx_C n L tab mk us rl fi se th asm T R X Y Z AS) (hP : ∀ c, c < L → ra_PC (T (R c))) (hD : rx_Dm n dom D)
    (h1 : ∀ ro' W', xe_Rw n ro' W' → ra_Ech n W' → (∀ e, ra_All n W' e ↔ rn_Sol n (rx_Ac L sk) (fun c => T (R c)) X Y Z D e) → post 1 ((nI n), (nI L), sk, cl, fd, tab, mk, us, rl, fi, se, th, asm, dom, sv, tr, tu, fo, ro'))
    (h0 : ∀ ro', (∀ e, ¬ rn_Sol n (rx_Ac L sk) (fun c => T (R c)) X Y Z D e) → post 0 ((nI n), (nI L), sk, cl, fd, tab, mk, us, rl, fi, se, th, asm, dom, sv, tr, tu, fo, ro')) : wpX_eliminate post ((nI n), (nI L), sk, cl, fd, tab, mk, us, rl, fi, se, th, asm, dom, sv, tr, tu, fo, ro) := by
  have hn := C.1
  show ∃ q, wX_eliminate_2 post (nI n) (nI L) sk cl fd q 0 tab mk us rl fi se th asm dom sv tr tu fo ro
  refine loop_0 (fun q v (s : Nat → Int32) => wX_eliminate_2 post (nI n) (nI L) sk cl fd q (nI v) tab mk us rl fi se th asm dom sv tr tu fo s) (fun k s => ∀ w, w < k → s w = nI 0) 8 ro (fun w hw => absurd hw (by omega)) ?_ ?_
  · intro q s hs
    refine br_t (by decide) (loop_0 (fun q v (s : Nat → Int32) => wX_eliminate_23 post q (nI v) (nI n) (nI L) sk cl fd tab mk us rl fi se th asm dom sv tr tu fo s)
      (fun v s => ∃ W', xe_Rw n s W' ∧ ra_Ech n W' ∧ ∀ e, ra_All n W' e ↔ ∀ w, w < v → (D w).testBit (e w).toNat = true) n s
      ⟨fun _ => 0, fun v hv => ⟨(by decide : (0 : Nat) < 512), hs v (by omega)⟩, fun v _ => Or.inl rfl, fun e => ⟨fun _ w hw => absurd hw (by omega), fun _ v _ => ra_rs_0 n e⟩⟩ ?_ ?_)
    · rintro q s ⟨W', w1, w2, w3⟩
      exact br_t (nI_le (Nat.le_refl n) (by omega)) (xe_cons C hP w1 w2 w3 h1 h0)
    · rintro q v s hv ⟨W', w1, w2, w3⟩ K
      have d4 := (hD v hv).1
      have vv : vp_in (nI v) 8 := vp_in_nI (by omega) (by decide)
      have step : ∀ s' W2, xe_Rw n s' W2 → ra_Ech n W2 → (∀ e, ra_All n W2 e ↔ (ra_All n W' e ∧ (D v).testBit (e v).toNat = true)) → wX_eliminate_23 post q (nI (v + 1)) (nI n) (nI L) sk cl fd tab mk us rl fi se th asm dom sv tr tu fo s' := by
        intro s' W2 a1 a2 a3
        refine K s' ⟨W2, a1, a2, fun e => ?_⟩
        rw [a3 e, w3 e]
        constructor
        · rintro ⟨g1, g2⟩ w hw
          by_cases ew : w = v
          · rw [ew]; exact g2
          · exact g1 w (by omega)
        · exact fun g => ⟨fun w hw => g w (by omega), g v (by omega)⟩
      refine br_f (nI_ge hv (by omega)) (And.intro vv ?_)
      rw [rx_dm hD hv hn.2.1]
      refine pk_eq (D v) 0 (fun hz => h0 _ (fun e he => ?_)) (fun hz => And.intro vv (pk_eq (D v) 3 (fun h3 => nm_r (nI_1 v) (step s W' w1 w2 (fun e => ?_))) (fun h3 => And.intro vv ?_)))
      · have := he.1 v hv
        rw [hz, Nat.zero_testBit] at this
        exact absurd this (by decide)
      · rw [h3]
        exact ⟨fun g => ⟨g, xe_33 _⟩, fun g => g.1⟩
      · obtain ⟨k1, k2⟩ := xe_d3 (D v) d4 hz h3
        have er : ((1 : Int32) <<< (nI v &&& 31)) ||| ((nI (D v) >>> ((1 : Int32) &&& 31)) <<< ((8 : Int32) &&& 31)) = nI (2 ^ v ||| (D v >>> 1) * 2 ^ 8) := by
          rw [rb_one (by omega), show nI (D v) >>> ((1 : Int32) &&& 31) = nI (D v >>> 1) from rb_shr (k := 1) (by omega) (by decide), show nI (D v >>> 1) <<< ((8 : Int32) &&& 31) = nI ((D v >>> 1) * 2 ^ 8) from rb_shl (k := 8) (by decide) (by omega), rb_or]
        rw [er]
        have gs := fun e => ra_gen (r := 2 ^ v) e hn.2.1 k1 (fun j hj => Nat.testBit_two_pow_of_ne (by omega))
        have key : ∀ e, (ra_All n W' e ∧ ra_RS n (2 ^ v ||| (D v >>> 1) * 2 ^ 8) e) ↔ (ra_All n W' e ∧ (D v).testBit (e v).toNat = true) := by
          intro e
          rw [(gs e).2, ra_pr_pow n hv, k2]
        refine xe_join hn.2.1 w1 w2 (gs (fun _ => false)).1 (fun ro' W2 a1 a2 a3 => br_f (by decide) (nm_r (nI_1 v) (step ro' W2 a1 a2 (fun e => (a3 e).trans (key e))))) (fun g => br_t rfl (h0 s (fun e he => g e ((key e).mpr ⟨(w3 e).mpr (fun w hw => he.1 w (by omega)), he.1 v hv⟩))))
  · intro q v s hv hs K
    exact br_f (nI_ge (b := 8) hv (by decide)) (And.intro (vp_in_nI hv (by decide)) (nm_r (e' := upd s v (nI 0)) (by rw [nI_clamp (by omega)]; rfl) (nm_r (nI_1 v) (K _ (rx_ext (g := fun _ => 0) hs rfl)))))
theorem xe_rank {post : Int32 → Prop} {W : Nat → Nat} (h8 : n ≤ 8) (hR : xe_Rw n ro W) (h : post (nI (ra_rk W n))) : wpX_rank post ((nI n), (nI L), sk, cl, fd, tab, mk, us, rl, fi, se, th, asm, dom, sv, tr, tu, fo, ro) := by
  show ∃ q, wX_rank_4 post (nI n) (nI L) sk cl fd tab mk us rl fi se th asm dom sv tr tu fo ro q 0 0
  refine loop_0 (fun q v (s : Int32) => wX_rank_4 post (nI n) (nI L) sk cl fd tab mk us rl fi se th asm dom sv tr tu fo ro q s (nI v)) (fun v s => s = nI (ra_rk W v)) n 0 rfl ?_ ?_
  · rintro q s rfl
    exact br_t (nI_le (Nat.le_refl n) (by omega)) h
  · rintro q v s hv rfl K
    have wl := (hR v hv).1
    refine br_f (nI_ge hv (by omega)) (And.intro (vp_in_nI (by omega) (by decide)) ?_)
    rw [show ro (nI v).toNatClampNeg = nI (W v) by rw [nI_clamp (by omega)]; exact (hR v hv).2]
    refine pk_eq (W v) 0 (fun hz => nm_r (nI_1 v) (K _ ?_)) (fun hz => nm_r (nI_1 _) (nm_r (nI_1 v) (K _ ?_)))
    · show nI (ra_rk W v) = nI (ra_rk W v + (if W v = 0 then 0 else 1))
      rw [if_pos hz, Nat.add_zero]
    · show nI (ra_rk W v + 1) = nI (ra_rk W v + (if W v = 0 then 0 else 1))
      rw [if_neg hz]
end
end
section
/-! keep, fetch, and the search -/
def xh_s : Nat → Nat
  | 0 => 1
  | k + 1 => 2 + 2 * xh_s k
theorem xh_s1 : ∀ k, 1 ≤ xh_s k := by
  intro k
  cases k
  · exact Nat.le_refl 1
  · show 1 ≤ 2 + 2 * xh_s _
    omega
section
variable {n L : Nat} {sk cl fd : Int32} {tab mk us rl fi se th asm dom sv tr tu fo ro : Nat → Int32} {T R X Y Z AS D : Nat → Nat}
theorem xk_keep {post : SX → Prop} {b : Nat} (hb : b + 8 ≤ 72) (K : ∀ sv', (∀ v, v < 8 → sv' (b + v) = dom v) → (∀ j, j < b ∨ b + 8 ≤ j → sv' j = sv j) → post ((nI n), (nI L), sk, cl, fd, tab, mk, us, rl, fi, se, th, asm, dom, sv', tr, tu, fo, ro)) : wpX_keep post ((nI n), (nI L), sk, cl, fd, tab, mk, us, rl, fi, se, th, asm, dom, sv, tr, tu, fo, ro) (nI b) := by
  show ∃ q, wX_keep_2 post (nI b) (nI n) (nI L) sk cl fd q 0 tab mk us rl fi se th asm dom sv tr tu fo ro
  refine loop_0 (fun q v (s : Nat → Int32) => wX_keep_2 post (nI b) (nI n) (nI L) sk cl fd q (nI v) tab mk us rl fi se th asm dom s tr tu fo ro) (fun v s => (∀ w, w < v → s (b + w) = dom w) ∧ (∀ j, j < b ∨ b + 8 ≤ j → s j = sv j)) 8 sv ⟨fun w hw => absurd hw (by omega), fun _ _ => rfl⟩ ?_ ?_
  · rintro q s ⟨h1, h2⟩
    exact br_t (by decide) (K s h1 h2)
  · rintro q v s hv ⟨h1, h2⟩ K'
    refine br_f (nI_ge (b := 8) hv (by decide)) (And.intro (vp_in_nI hv (by decide)) ?_)
    rw [nI_add]
    refine And.intro (vp_in_nI (by omega) (by decide)) (nm_r (e' := upd s (b + v) (dom v)) (by rw [nI_clamp (by omega), nI_clamp (by omega)]) (nm_r (nI_1 v) (K' _ ⟨fun w hw => ?_, fun j hj => ?_⟩)))
    · by_cases e : w = v
      · rw [e, pk_us]
      · rw [pk_un (by omega)]; exact h1 w (by omega)
    · rw [pk_un (by omega)]; exact h2 j hj
theorem xk_fetch {post : SX → Prop} {b : Nat} (hb : b + 8 ≤ 72) (K : ∀ dom', (∀ v, v < 8 → dom' v = sv (b + v)) → post ((nI n), (nI L), sk, cl, fd, tab, mk, us, rl, fi, se, th, asm, dom', sv, tr, tu, fo, ro)) : wpX_fetch post ((nI n), (nI L), sk, cl, fd, tab, mk, us, rl, fi, se, th, asm, dom, sv, tr, tu, fo, ro) (nI b) := by
  show ∃ q, wX_fetch_2 post (nI b) (nI n) (nI L) sk cl fd q 0 tab mk us rl fi se th asm dom sv tr tu fo ro
  refine loop_0 (fun q v (s : Nat → Int32) => wX_fetch_2 post (nI b) (nI n) (nI L) sk cl fd q (nI v) tab mk us rl fi se th asm s sv tr tu fo ro) (fun v s => ∀ w, w < v → s w = sv (b + w)) 8 dom (fun w hw => absurd hw (by omega)) ?_ ?_
  · intro q s h1
    exact br_t (by decide) (K s h1)
  · intro q v s hv h1 K'
    refine br_f (nI_ge (b := 8) hv (by decide)) ?_
    rw [nI_add]
    refine And.intro (vp_in_nI (by omega) (by decide)) (And.intro (vp_in_nI hv (by decide)) (nm_r (e' := upd s v (sv (b + v))) (by rw [nI_clamp (by omega), nI_clamp (by omega)]) (nm_r (nI_1 v) (K' _ (fun w hw => ?_)))))
    by_cases e : w = v
    · rw [e, pk_us]
    · rw [pk_un e]; exact h1 w (by omega)
theorem xo_first {post : Int32 → Prop} (h8 : n ≤ 8) (hD : rx_Dm n dom D) (h1 : ∀ v, v < n → D v = 3 → post (nI v)) (h0 : (∀ v, v < n → D v ≠ 3) → post (nI n)) : wpX_firstOpen post ((nI n), (nI L), sk, cl, fd, tab, mk, us, rl, fi, se, th, asm, dom, sv, tr, tu, fo, ro) := by
  show ∃ q, wX_firstOpen_2 post (nI n) (nI L) sk cl fd tab mk us rl fi se th asm dom sv tr tu fo ro q 0
  refine loop_0 (fun q v (_ : Unit) => wX_firstOpen_2 post (nI n) (nI L) sk cl fd tab mk us rl fi se th asm dom sv tr tu fo ro q (nI v)) (fun v _ => ∀ w, w < v → D w ≠ 3) n () (fun w hw => absurd hw (by omega)) ?_ ?_
  · intro q _ hs
    exact br_t (nI_le (Nat.le_refl n) (by omega)) (h0 hs)
  · intro q v _ hv hs K
    have d4 := (hD v hv).1
    refine br_f (nI_ge hv (by omega)) (And.intro (vp_in_nI (by omega) (by decide)) ?_)
    rw [rx_dm hD hv h8]
    refine pk_eq (D v) 3 (fun h => h1 v hv h) (fun h => nm_r (nI_1 v) (K () (fun w hw => ?_)))
    by_cases e : w = v
    · rw [e]; exact h
    · exact hs w (by omega)
theorem xo_open {post : Int32 → SX → Prop} {d f : Nat} (C : rx_C n L tab mk us rl fi se th asm T R X Y Z AS) (hD : rx_Dm n dom D) (hd : d ≤ 8) (hop : rn_op D n + d ≤ 8)
    (h0 : ∀ cl' dom', (∀ e, ¬ rn_Sol n (rx_Ac L sk) (fun c => T (R c)) X Y Z D e) → post 0 ((nI n), (nI L), sk, cl', (nI f), tab, mk, us, rl, fi, se, th, asm, dom', sv, tr, tu, fo, ro))
    (h1 : ∀ cl' dom' (a : Nat → Bool), (∀ e, rn_Sol n (rx_Ac L sk) (fun c => T (R c)) X Y Z D e ↔ ∀ v, v < n → e v = a v) → post 0 ((nI n), (nI L), sk, cl', (nI (f + 1)), tab, mk, us, rl, fi, se, th, asm, dom', sv, tr, tu, fo, ro))
    (h2 : ∀ cl' dom' sv' D' v, d < 8 → v < n → D' v = 3 → rx_Dm n dom' (rx_up D' v 1) → rn_Le n (rx_Ac L sk) (fun c => T (R c)) X Y Z D D' → (∀ w, w < n → D' w < 4 ∧ sv' (8 + d * 8 + w) = nI (D' w)) → (∀ j, j < 8 + d * 8 → sv' j = sv j) →
      post 1 ((nI n), (nI L), sk, cl', (nI f), tab, mk, us, rl, fi, se, th, asm, dom', sv', (upd tr d (nI v)), (upd tu d 0), fo, ro)) : wpX_open post ((nI n), (nI L), sk, cl, (nI f), tab, mk, us, rl, fi, se, th, asm, dom, sv, tr, tu, fo, ro) (nI d) := by
  have hn := C.1
  refine xl_filter C hD (fun c' d' g => br_t rfl (h0 c' d' g)) (fun c' d' D' g1 g2 g3 => br_f (by decide) (xo_first hn.2.1 g1 (fun v hv h3 => ?_) (fun h3 => ?_)))
  · have vn : ¬ nI v = nI n := fun g => by rw [nI_eq (by omega) (by omega)] at g; omega
    have pos : 0 < rn_op D' n := Nat.pos_of_ne_zero (fun z => rn_op_0 n z v hv h3)
    have le : rn_op D' n ≤ rn_op D n := by
      refine rn_op_mono n (fun w hw q => ?_)
      exact (rn_sub3 _ (hD w hw).1 _ (g2.1 w hw).1 (g2.2.1 w hw)).1 q
    have vd : vp_in (nI d) 8 := vp_in_nI (by omega) (by decide)
    refine br_f vn (br_t (nI_le (b := 7) (by omega) (by decide)) (And.intro vd (nm_r (e' := upd tr d (nI v)) (by rw [nI_clamp (by omega)]) (And.intro vd (nm_r (e' := upd tu d 0) (by rw [nI_clamp (by omega)]; rfl) ?_)))))
    rw [show (8 : Int32) + nI d * 8 = nI (8 + d * 8) by rw [show nI d * 8 = nI (d * 8) from pk_mul d 8]; exact nI_add 8 _]
    refine xk_keep (by omega) (fun sv' s1 s2 => And.intro (vp_in_nI (by omega) (by decide)) (nm_r (e' := upd d' v (nI 1)) (by rw [nI_clamp (by omega)]; rfl) (h2 c' _ sv' D' v (by omega) hv h3 (rx_dm_up g1 (by decide)) g2 (fun w hw => ⟨(g1 w hw).1, ?_⟩) (fun j hj => s2 j (Or.inl hj)))))
    rw [s1 w (by omega)]; exact (g1 w hw).2
  · refine br_t rfl (nm_r (nI_1 f) (h1 c' d' (fun v => decide (D' v = 2)) (fun e => ?_)))
    rw [rn_le_iff g2 e]
    exact rn_leaf (rx_V C) g2.1 g3 h3 e
/-- the count of the solutions within the domains -/
noncomputable def xh_c (n L : Nat) (sk : Int32) (T R X Y Z D : Nat → Nat) : Nat := rc_ct (rn_Sol n (rx_Ac L sk) (fun c => T (R c)) X Y Z D) n (fun _ => false)
theorem xh_c_le {D' : Nat → Nat} (h : rn_Le n (rx_Ac L sk) (fun c => T (R c)) X Y Z D D') : xh_c n L sk T R X Y Z D = xh_c n L sk T R X Y Z D' := rc_ct_c (rn_le_iff h) n _
theorem xh_c_256 (h8 : n ≤ 8) : xh_c n L sk T R X Y Z D ≤ 256 := Nat.le_trans (rc_ct_le _ n _) (rb_pw (b := 8) h8)
theorem xh_c_0 (h : ∀ e, ¬ rn_Sol n (rx_Ac L sk) (fun c => T (R c)) X Y Z D e) : xh_c n L sk T R X Y Z D = 0 := rc_ct_0 h n _
theorem xh_c_1 {a : Nat → Bool} (h : ∀ e, rn_Sol n (rx_Ac L sk) (fun c => T (R c)) X Y Z D e ↔ ∀ v, v < n → e v = a v) : xh_c n L sk T R X Y Z D = 1 := rc_ct_one h _
theorem xh_split {v : Nat} (hv : v < n) (h3 : D v = 3) : xh_c n L sk T R X Y Z D = xh_c n L sk T R X Y Z (rx_up D v 1) + xh_c n L sk T R X Y Z (rx_up D v 2) := by
  have bit : ∀ b : Bool, ((1 : Nat).testBit b.toNat = true ↔ b = false) ∧ ((2 : Nat).testBit b.toNat = true ↔ b = true) ∧ (3 : Nat).testBit b.toNat = true := by decide
  refine rc_ct_add (fun e => ?_) (fun e h1 h2 => ?_) n _
  · constructor
    · rintro ⟨h1, h2⟩
      cases hb : e v
      · refine Or.inl ⟨fun w hw => ?_, h2⟩
        by_cases ew : w = v
        · rw [ew, rx_up_s]; exact (bit _).1.mpr hb
        · rw [rx_up_n ew]; exact h1 w hw
      · refine Or.inr ⟨fun w hw => ?_, h2⟩
        by_cases ew : w = v
        · rw [ew, rx_up_s]; exact (bit _).2.1.mpr hb
        · rw [rx_up_n ew]; exact h1 w hw
    · have key : ∀ x, rn_Sol n (rx_Ac L sk) (fun c => T (R c)) X Y Z (rx_up D v x) e → rn_Sol n (rx_Ac L sk) (fun c => T (R c)) X Y Z D e := by
        rintro x ⟨h1, h2⟩
        refine ⟨fun w hw => ?_, h2⟩
        by_cases ew : w = v
        · rw [ew, h3]; exact (bit _).2.2
        · have := h1 w hw
          rw [rx_up_n ew] at this; exact this
      exact fun h => h.elim (key 1) (key 2)
  · have a := h1.1 v hv
    have b := h2.1 v hv
    rw [rx_up_s] at a b
    have c := (bit _).1.mp a
    rw [(bit _).2.1.mp b] at c
    exact absurd c (by decide)
theorem xh_sub {post : Int32 → SX → Prop} {al : Int32} (C : rx_C n L tab mk us rl fi se th asm T R X Y Z AS) (hal : al = 0 ∨ al = 1) : ∀ (k d : Nat), d + k = 8 → ∀ (st f : Nat) (D : Nat → Nat) (dom : Nat → Int32) (cl : Int32) (sv tr tu : Nat → Int32),
    rx_Dm n dom D → rn_op D n ≤ k → st + xh_s k ≤ 2048 → f + xh_c n L sk T R X Y Z D < 2 ^ 30 → (al = 0 → f = 0) →
    (∀ (st' : Nat) (cl' : Int32) (dom' sv' tr' tu' : Nat → Int32), st ≤ st' → st' < st + xh_s k → (∀ j, j < 8 + d * 8 → sv' j = sv j) → (∀ j, j < d → tr' j = tr j ∧ tu' j = tu j) → (al = 0 → xh_c n L sk T R X Y Z D = 0) →
      wX_search_54 post (wX_search_12 post al (2048 - st')) al (nI d) 0 (nI st') (nI n) (nI L) sk cl' (nI (f + xh_c n L sk T R X Y Z D)) tab mk us rl fi se th asm dom' sv' tr' tu' fo ro) →
    (al = 0 → 0 < xh_c n L sk T R X Y Z D → ∀ (cl' : Int32) (dom' sv' tr' tu' : Nat → Int32), (∀ j, j < 8 → sv' j = sv j) → post (nI 1) ((nI n), (nI L), sk, cl', (nI 1), tab, mk, us, rl, fi, se, th, asm, dom', sv', tr', tu', fo, ro)) →
    wX_search_12 post al (2049 - st) (nI d) 1 (nI st) (nI n) (nI L) sk cl (nI f) tab mk us rl fi se th asm dom sv tr tu fo ro := by
  have hn := C.1
  intro k
  induction k with
  | zero =>
    intro d hdk st f D dom cl sv tr tu hD hop hst hf ha K K2
    have s1 := xh_s1 0
    rw [show 2049 - st = (2048 - st) + 1 by omega]
    refine br_f (nI_ge (b := 2048) (by omega) (by decide)) (br_f (by decide) (xo_open C hD (by omega) (by omega) (fun c' d' g => ?_) (fun c' d' a g => ?_) (fun c' d' sv' D' v g => ?_)))
    · have z := xh_c_0 g
      rw [z] at K
      have go := K st c' d' sv tr tu (by omega) (by omega) (fun _ _ => rfl) (fun _ _ => ⟨rfl, rfl⟩) (fun _ => rfl)
      refine br_t rfl (br_c (fun h => br_t ?_ go) (fun _ => go))
      rw [ha h]; decide
    · have z := xh_c_1 g
      rw [z] at K K2 hf
      refine br_t rfl (br_c (fun h => ?_) (fun h => K st c' d' sv tr tu (by omega) (by omega) (fun _ _ => rfl) (fun _ _ => ⟨rfl, rfl⟩) (fun q => absurd q h)))
      have f0 := ha h
      subst f0
      exact br_f (nI_nle (by omega) (by omega)) (K2 h (by omega) _ _ _ _ _ (fun _ _ => rfl))
    · omega
  | succ k ih =>
    intro d hdk st f D dom cl sv tr tu hD hop hst hf ha K K2
    have s1 := xh_s1 k
    have sk1 : xh_s (k + 1) = 2 + 2 * xh_s k := rfl
    rw [show 2049 - st = (2048 - st) + 1 by omega]
    refine br_f (nI_ge (b := 2048) (by omega) (by decide)) (br_f (by decide) (xo_open C hD (by omega) (by omega) (fun c' d' g => ?_) (fun c' d' a g => ?_) (fun c' d' sv' D' v g1 g2 g3 g4 g5 g6 g7 => ?_)))
    · have z := xh_c_0 g
      rw [z] at K
      have go := K st c' d' sv tr tu (by omega) (by omega) (fun _ _ => rfl) (fun _ _ => ⟨rfl, rfl⟩) (fun _ => rfl)
      refine br_t rfl (br_c (fun h => br_t ?_ go) (fun _ => go))
      rw [ha h]; decide
    · have z := xh_c_1 g
      rw [z] at K K2 hf
      refine br_t rfl (br_c (fun h => ?_) (fun h => K st c' d' sv tr tu (by omega) (by omega) (fun _ _ => rfl) (fun _ _ => ⟨rfl, rfl⟩) (fun q => absurd q h)))
      have f0 := ha h
      subst f0
      exact br_f (nI_nle (by omega) (by omega)) (K2 h (by omega) _ _ _ _ _ (fun _ _ => rfl))
    · have cs := (xh_c_le g5).trans (xh_split g2 g3)
      have le : rn_op D' n ≤ rn_op D n := rn_op_mono n (fun w hw q => (rn_sub3 _ (hD w hw).1 _ (g5.1 w hw).1 (g5.2.1 w hw)).1 q)
      have lt : ∀ x, x ≠ 3 → rn_op (rx_up D' v x) n < rn_op D' n := fun x hx => rn_op_lt n (fun w _ q => by
        by_cases ew : w = v
        · rw [ew]; exact g3
        · rw [rx_up_n ew] at q; exact q) g2 g3 (by rw [rx_up_s]; exact hx)
      have lt1 := lt 1 (by decide)
      have lt2 := lt 2 (by decide)
      have vd : vp_in (nI d) 8 := vp_in_nI (by omega) (by decide)
      refine br_f (by decide) (nm_r (nI_1 d) (nm_r (nI_1 st) ?_))
      rw [show 2048 - st = 2049 - (st + 1) by omega]
      refine ih (d + 1) (by omega) (st + 1) f (rx_up D' v 1) d' c' sv' _ _ g4 (by omega) (by omega) (by omega) ha (fun st1 c1 d1 sv1 tr1 tu1 a1 a2 a3 a4 a5 => ?_) (fun h hp c1 d1 sv1 tr1 tu1 a1 => K2 h (by omega) _ _ _ _ _ (fun j hj => (a1 j hj).trans (g7 j (by omega))))
      have tu0 : tu1 d = 0 := by rw [(a4 d (by omega)).2, pk_us]
      have tr0 : tr1 d = nI v := by rw [(a4 d (by omega)).1, pk_us]
      refine nm_r (pk_m1 d) (br_t (nI_pos' (by omega)) (And.intro vd ?_))
      rw [nI_clamp (by omega)]
      refine br_t tu0 (And.intro vd (nm_r (e' := upd tu1 d 1) rfl ?_))
      rw [show (8 : Int32) + nI d * 8 = nI (8 + d * 8) by rw [show nI d * 8 = nI (d * 8) from pk_mul d 8]; exact nI_add 8 _]
      refine xk_fetch (by omega) (fun d2 h2 => And.intro vd ?_)
      rw [tr0]
      have dm2 : rx_Dm n d2 D' := fun w hw => ⟨(g6 w hw).1, by rw [h2 w (by omega), a3 _ (by omega)]; exact (g6 w hw).2⟩
      refine And.intro (vp_in_nI (by omega) (by decide)) (nm_r (e' := upd d2 v (nI 2)) (by rw [nI_clamp (by omega)]; rfl) (nm_r (nI_1 d) (nm_r (nI_1 st1) ?_)))
      rw [show 2048 - st1 = 2049 - (st1 + 1) by omega]
      refine ih (d + 1) (by omega) (st1 + 1) (f + xh_c n L sk T R X Y Z (rx_up D' v 1)) (rx_up D' v 2) _ _ sv1 tr1 _ (rx_dm_up dm2 (by decide)) (by omega) (by omega) (by omega) (fun h => by rw [ha h, a5 h]) (fun st2 c2 d3 sv2 tr2 tu2 b1 b2 b3 b4 b5 => ?_) (fun h hp c1 d1 sv2 tr1 tu1 b1 => K2 h (by omega) _ _ _ _ _ (fun j hj => ((b1 j hj).trans (a3 j (by omega))).trans (g7 j (by omega))))
      have tu2' : ¬ tu2 d = 0 := by rw [(b4 d (by omega)).2, pk_us]; decide
      refine nm_r (pk_m1 d) (br_t (nI_pos' (by omega)) (And.intro vd ?_))
      rw [nI_clamp (by omega)]
      refine br_f tu2' (nm_r (nI_1 st2) ?_)
      rw [show 2048 - st2 = (2048 - (st2 + 1)) + 1 by omega]
      refine br_f (nI_ge (b := 2048) (by omega) (by decide)) (br_t rfl ?_)
      rw [show f + xh_c n L sk T R X Y Z (rx_up D' v 1) + xh_c n L sk T R X Y Z (rx_up D' v 2) = f + xh_c n L sk T R X Y Z D by omega]
      refine K (st2 + 1) c2 d3 sv2 tr2 tu2 (by omega) (by omega) (fun j hj => ((b3 j (by omega)).trans (a3 j (by omega))).trans (g7 j hj)) (fun j hj => ⟨?_, ?_⟩) (fun h => by rw [cs, a5 h, b5 h])
      · rw [(b4 j (by omega)).1, (a4 j (by omega)).1, pk_un (by omega)]
      · rw [(b4 j (by omega)).2, pk_un (by omega), (a4 j (by omega)).2, pk_un (by omega)]
theorem xh_search {post : Int32 → SX → Prop} {al : Int32} (C : rx_C n L tab mk us rl fi se th asm T R X Y Z AS) (hal : al = 0 ∨ al = 1) (hD : rx_Dm n dom D)
    (h : ∀ (r : Nat) (cl' : Int32) (dom' sv' tr' tu' : Nat → Int32), (al = 1 → r = xh_c n L sk T R X Y Z D) → (al = 0 → (0 < r ↔ 0 < xh_c n L sk T R X Y Z D)) → r ≤ 256 → (∀ j, j < 8 → sv' j = sv j) →
      post (nI r) ((nI n), (nI L), sk, cl', (nI r), tab, mk, us, rl, fi, se, th, asm, dom', sv', tr', tu', fo, ro)) : wpX_search post ((nI n), (nI L), sk, cl, fd, tab, mk, us, rl, fi, se, th, asm, dom, sv, tr, tu, fo, ro) al := by
  have hn := C.1
  have c256 := xh_c_256 (L := L) (sk := sk) (T := T) (R := R) (X := X) (Y := Y) (Z := Z) (D := D) hn.2.1
  have o8 := rn_op_le D n
  show ∃ q, wX_search_12 post al q 0 1 0 (nI n) (nI L) sk cl 0 tab mk us rl fi se th asm dom sv tr tu fo ro
  refine ⟨2049 - 0, xh_sub C hal 8 0 rfl 0 0 D dom cl sv tr tu hD (by omega) (by decide) (by omega) (fun _ => rfl) (fun st' c' d' sv' tr' tu' a1 a2 a3 a4 a5 => ?_) (fun h0 hp c' d' sv' tr' tu' a1 => ?_)⟩
  · refine nm_e (br_f (by decide) ?_)
    rw [Nat.zero_add]
    exact h _ c' d' sv' tr' tu' (fun _ => rfl) (fun _ => Iff.rfl) c256 (fun j hj => a3 j (by omega))
  · exact h 1 c' d' sv' tr' tu' (fun h1 => by rw [h0] at h1; exact absurd h1 (by decide)) (fun _ => ⟨fun _ => hp, fun _ => by decide⟩) (by decide) a1
end
end
section
/-! decide, can, extreme -/
theorem xq_12 : ∀ N, N < 128 → (N &&& 12 < 128 ∧ N &&& 16 < 128 ∧ N &&& 32 < 128) := fun N h => ⟨Nat.lt_of_le_of_lt Nat.and_le_left h, Nat.lt_of_le_of_lt Nat.and_le_left h, Nat.lt_of_le_of_lt Nat.and_le_left h⟩
theorem xq_b12 : ∀ N, N < 128 → (N &&& 12 = 0 ∨ (N.testBit 2 = true ∨ N.testBit 3 = true)) := by decide +kernel
theorem xq_b16 : ∀ N, N < 128 → (N &&& 16 = 0 ∨ N.testBit 4 = true) := by decide +kernel
theorem xq_b32 : ∀ N, N < 128 → ((N &&& 32 = 0 ∧ N.testBit 5 = false) ∨ (N &&& 32 ≠ 0 ∧ N.testBit 5 = true)) := by decide +kernel
section
variable {n L : Nat} {sk cl fd : Int32} {tab mk us rl fi se th asm dom sv tr tu fo ro : Nat → Int32} {T R X Y Z AS D : Nat → Nat}
theorem xq_nt {N : Nat} (h : rx_Nt L T R N) : N < 128 := by
  refine Nat.lt_pow_two_of_testBit (n := 7) N (fun j hj => ?_)
  cases hb : N.testBit j
  · rfl
  · have := ((h j).mp hb).1
    rw [Nat.testBit_lt_two_pow (Nat.lt_of_lt_of_le (by decide : (127 : Nat) < 2 ^ 7) (rb_pw hj))] at this
    exact absurd this (by decide)
theorem xq_cg (C : rx_C n L tab mk us rl fi se th asm T R X Y Z AS) : ∀ e e' : Nat → Bool, (∀ v, v < n → e v = e' v) → rn_Sol n (rx_Ac L sk) (fun c => T (R c)) X Y Z D e → rn_Sol n (rx_Ac L sk) (fun c => T (R c)) X Y Z D e' := fun _ _ h g => rn_sol_cg (rx_V C) h g
theorem xq_pos (C : rx_C n L tab mk us rl fi se th asm T R X Y Z AS) : 0 < xh_c n L sk T R X Y Z D ↔ ∃ e, rn_Sol n (rx_Ac L sk) (fun c => T (R c)) X Y Z D e :=
  ⟨fun h => rc_ct_ex n _ h, fun ⟨a, ha⟩ => rc_ct_pos (n := n) (xq_cg C) ha n (Nat.le_refl n) _ (fun v h1 h2 => by omega)⟩
theorem xq_decide {post : Int32 → SX → Prop} (C : rx_C n L tab mk us rl fi se th asm T R X Y Z AS) (hD : rx_Dm n dom D)
    (h : ∀ (cl' fd' : Int32) (dom' sv' tr' tu' fo' ro' : Nat → Int32), (∀ j, j < 8 → sv' j = sv j) → post (rt_fl (∃ e, rn_Sol n (rx_Ac L sk) (fun c => T (R c)) X Y Z D e)) ((nI n), (nI L), sk, cl', fd', tab, mk, us, rl, fi, se, th, asm, dom', sv', tr', tu', fo', ro')) : wpX_decide post ((nI n), (nI L), sk, cl, fd, tab, mk, us, rl, fi, se, th, asm, dom, sv, tr, tu, fo, ro) := by
  have hn := C.1
  refine xn_net C (fun N hN => ?_)
  have n7 := xq_nt hN
  obtain ⟨l1, l2, l3⟩ := xq_12 N n7
  rw [show nI N &&& 12 = nI (N &&& 12) from rb_and N 12, show nI N &&& 16 = nI (N &&& 16) from rb_and N 16, show nI N &&& 32 = nI (N &&& 32) from rb_and N 32]
  have tv : ∀ j, N.testBit j = true → ∀ c, rx_Ac L sk c → (rt_tv (T (R c))).testBit j = true := fun j hj c hc => ((hN j).mp hj).2 c hc.1
  refine pk_eq (N &&& 12) 0 (fun h12 => pk_eq (N &&& 16) 0 (fun h16 => pk_eq (N &&& 32) 0 (fun h32 => ?_) (fun h32 => ?_)) (fun h16 => ?_)) (fun h12 => ?_)
  · refine xh_search C (Or.inl rfl) hD (fun r c' d' s' tr' tu' g1 g2 g3 g4 => ?_)
    have g := h c' (nI r) d' s' tr' tu' fo ro g4
    have i2 := g2 rfl
    rw [xq_pos C] at i2
    refine pk_le r 0 (fun hz => ?_) (fun hz => ?_)
    · rw [rt_f (fun q => by have := i2.mpr q; omega)] at g; exact g
    · rw [rt_t (i2.mp hz)] at g; exact g
  · have b5 : N.testBit 5 = true := (xq_b32 N n7).elim (fun q => absurd q.1 h32) (fun q => q.2)
    refine xe_elim C (fun c hc => (rt_tv_all _).2.2.2.2 (((hN 5).mp b5).2 c hc)) hD (fun ro' W' a1 a2 a3 => ⟨rfl, ?_⟩) (fun ro' a => ⟨rfl, ?_⟩)
    · have g := h cl fd dom sv tr tu fo ro' (fun _ _ => rfl)
      obtain ⟨e, he⟩ := ra_sat a2
      rw [rt_t ⟨e, (a3 e).mp he⟩] at g; exact g
    · have g := h cl fd dom sv tr tu fo ro' (fun _ _ => rfl)
      rw [rt_f (fun ⟨e, he⟩ => a e he)] at g; exact g
  · have b4 : N.testBit 4 = true := (xq_b16 N n7).resolve_left h16
    refine xc_close C hD (fun fo' => ⟨rt_nar _, ?_⟩)
    have g := h cl fd dom sv tr tu fo' ro (fun _ _ => rfl)
    have e : (∃ e, rn_In n D e ∧ ∀ c, rx_Ac L sk c → xc_P T R X Y Z c e) ↔ ∃ e, rn_Sol n (rx_Ac L sk) (fun c => T (R c)) X Y Z D e := by
      constructor
      · rintro ⟨e, h1, h2⟩
        exact ⟨e, h1, fun c hc => (rt_pairs ((rt_tv_all _).2.2.2.1 (tv 4 b4 c hc)) _ _ _).mpr (h2 c hc)⟩
      · rintro ⟨e, h1, h2⟩
        exact ⟨e, h1, fun c hc => (rt_pairs ((rt_tv_all _).2.2.2.1 (tv 4 b4 c hc)) _ _ _).mp (h2 c hc)⟩
    rw [rt_c e]; exact g
  · have b23 := (xq_b12 N n7).resolve_left h12
    refine xl_filter C hD (fun c' d' a => ⟨rfl, ?_⟩) (fun c' d' D' a1 a2 a3 => ⟨rfl, ?_⟩)
    · have g := h c' fd d' sv tr tu fo ro (fun _ _ => rfl)
      rw [rt_f (fun ⟨e, he⟩ => a e he)] at g; exact g
    · have g := h c' fd d' sv tr tu fo ro (fun _ _ => rfl)
      have ex : ∃ e, rn_Sol n (rx_Ac L sk) (fun c => T (R c)) X Y Z D' e := b23.elim (fun q => rn_meet (rx_V C) a2.1 a3 (fun c hc => (rt_tv_all _).2.1 (tv 2 q c hc))) (fun q => rn_join (rx_V C) a2.1 a3 (fun c hc => (rt_tv_all _).2.2.1 (tv 3 q c hc)))
      obtain ⟨e, he⟩ := ex
      rw [rt_t ⟨e, (rn_le_iff a2 e).mpr he⟩] at g; exact g
/-- a domain cut to one value -/
theorem xq_res {u a : Nat} {e : Nat → Bool} (hu : u < n) : rn_Sol n (rx_Ac L sk) (fun c => T (R c)) X Y Z (rx_up D u (D u &&& 2 ^ a)) e ↔ (rn_Sol n (rx_Ac L sk) (fun c => T (R c)) X Y Z D e ∧ (e u).toNat = a) := by
  constructor
  · rintro ⟨h1, h2⟩
    refine ⟨⟨fun w hw => (xw_and.mp (h1 w hw)).1, h2⟩, ?_⟩
    have := (xw_and.mp (h1 u hu)).2 rfl
    rw [Nat.testBit_two_pow, decide_eq_true_eq] at this
    exact this.symm
  · rintro ⟨⟨h1, h2⟩, h3⟩
    refine ⟨fun w hw => xw_and.mpr ⟨h1 w hw, fun ew => ?_⟩, h2⟩
    rw [ew, Nat.testBit_two_pow, decide_eq_true_eq, h3]
theorem xq_cut {u a : Nat} (h8 : n ≤ 8) (hD : rx_Dm n dom D) (hu : u < n) (ha : a < 2) :
    upd dom (nI u).toNatClampNeg (dom (nI u).toNatClampNeg &&& ((1 : Int32) <<< (nI a &&& 31))) = upd dom u (nI (D u &&& 2 ^ a)) ∧ rx_Dm n (upd dom u (nI (D u &&& 2 ^ a))) (rx_up D u (D u &&& 2 ^ a)) := by
  refine ⟨?_, rx_dm_up hD (xw_and4 (hD u hu).1)⟩
  rw [nI_clamp (by omega), (hD u hu).2, rb_one (by omega), rb_and]
theorem xq_can {post : Int32 → SX → Prop} {u v a b : Nat} (C : rx_C n L tab mk us rl fi se th asm T R X Y Z AS) (hu : u < n) (hv : v < n) (ha : a < 2) (hb : b < 2)
    (h : ∀ (cl' fd' : Int32) (dom' sv' tr' tu' fo' ro' : Nat → Int32), post (rt_fl (∃ e, rn_Sol n (rx_Ac L sk) (fun c => T (R c)) X Y Z (rx_as AS) e ∧ (e u).toNat = a ∧ (e v).toNat = b)) ((nI n), (nI L), sk, cl', fd', tab, mk, us, rl, fi, se, th, asm, dom', sv', tr', tu', fo', ro')) : wpX_can post ((nI n), (nI L), sk, cl, fd, tab, mk, us, rl, fi, se, th, asm, dom, sv, tr, tu, fo, ro) (nI u) (nI a) (nI v) (nI b) := by
  have hn := C.1
  have vu : vp_in (nI u) 8 := vp_in_nI (by omega) (by decide)
  have vv : vp_in (nI v) 8 := vp_in_nI (by omega) (by decide)
  refine xd_set C (fun d1 h1 => ?_)
  obtain ⟨e1, h2⟩ := xq_cut hn.2.1 h1 hu ha
  obtain ⟨e2, h3⟩ := xq_cut hn.2.1 h2 hv hb
  refine And.intro vu (And.intro vu (nm_r e1 (And.intro vv (And.intro vv (nm_r e2 (xq_decide C h3 ?_))))))
  intro cl' fd' dom' sv' tr' tu' fo' ro' _
  refine ⟨rt_nar _, ?_⟩
  have g := h cl' fd' dom' sv' tr' tu' fo' ro'
  have eq : (∃ e, rn_Sol n (rx_Ac L sk) (fun c => T (R c)) X Y Z (rx_up (rx_up (rx_as AS) u (rx_as AS u &&& 2 ^ a)) v (rx_up (rx_as AS) u (rx_as AS u &&& 2 ^ a) v &&& 2 ^ b)) e) ↔ ∃ e, rn_Sol n (rx_Ac L sk) (fun c => T (R c)) X Y Z (rx_as AS) e ∧ (e u).toNat = a ∧ (e v).toNat = b := by
    constructor
    · rintro ⟨e, he⟩
      rw [xq_res hv, xq_res hu] at he
      exact ⟨e, he.1.1, he.1.2, he.2⟩
    · rintro ⟨e, he, h4, h5⟩
      refine ⟨e, ?_⟩
      rw [xq_res hv, xq_res hu]
      exact ⟨⟨he, h4⟩, h5⟩
  rw [rt_c eq]; exact g
end
/-- P is Q with the upper bits hi -/
def xm_I (n w k hi : Nat) (Q P : Nat → Prop) : Prop :=
  (∀ m, m < 2 ^ n → (P m ↔ (Q m ∧ m / 2 ^ k = hi))) ∧ (∃ m, m < 2 ^ n ∧ P m) ∧ (∀ m, m < 2 ^ n → Q m → ((w = 0 → hi ≤ m / 2 ^ k) ∧ (w ≠ 0 → m / 2 ^ k ≤ hi)))
theorem xm_half (m k : Nat) : m / 2 ^ (k + 1) = m / 2 ^ k / 2 := by rw [Nat.div_div_eq_div_mul, Nat.pow_succ]
theorem xm_step {n w k hi b : Nat} {Q P P' : Nat → Prop} (h : xm_I n w (k + 1) hi Q P) (hb : b < 2) (hw : w < 2) (hP : ∀ m, m < 2 ^ n → (P' m ↔ (P m ∧ (m.testBit k).toNat = b)))
    (ne : ∃ m, m < 2 ^ n ∧ P' m) (no : b ≠ w → ∀ m, m < 2 ^ n → ¬ (P m ∧ (m.testBit k).toNat = w)) : xm_I n w k (2 * hi + b) Q P' := by
  obtain ⟨h1, h2, h3⟩ := h
  refine ⟨fun m hm => ?_, ne, fun m hm hq => ?_⟩
  · rw [hP m hm, h1 m hm, Nat.toNat_testBit, xm_half]
    generalize m / 2 ^ k = t
    constructor
    · rintro ⟨⟨a, c⟩, d⟩
      exact ⟨a, by omega⟩
    · rintro ⟨a, c⟩
      exact ⟨⟨a, by omega⟩, by omega⟩
  · have a := h3 m hm hq
    have c := h1 m hm
    by_cases e : b = w
    · rw [xm_half] at a
      generalize m / 2 ^ k = t at a ⊢
      constructor
      · intro z; have := a.1 z; omega
      · intro z; have := a.2 z; omega
    · have d := no e m hm
      rw [c, Nat.toNat_testBit, xm_half] at d
      rw [xm_half] at a
      generalize m / 2 ^ k = t at a d ⊢
      have d' : ¬ (t / 2 = hi ∧ t % 2 = w) := fun z => d ⟨⟨hq, z.1⟩, z.2⟩
      constructor
      · intro z; have := a.1 z; omega
      · intro z; have := a.2 z; omega
section
variable {n L : Nat} {sk cl fd : Int32} {tab mk us rl fi se th asm dom sv tr tu fo ro : Nat → Int32} {T R X Y Z AS D : Nat → Nat}
theorem xm_77 {post : Int32 → SX → Prop} {J : Int32 → Int32 → Int32 → Int32 → Int32 → Int32 → Int32 → (Nat → Int32) → (Nat → Int32) → (Nat → Int32) → (Nat → Int32) → (Nat → Int32) → (Nat → Int32) → (Nat → Int32) → (Nat → Int32) → (Nat → Int32) → (Nat → Int32) → (Nat → Int32) → (Nat → Int32) → (Nat → Int32) → (Nat → Int32) → Prop}
    {x1 : Int32} {hi b k : Nat} (hb : b < 2) (hk : k < n) (h8 : n ≤ 8) (hD : rx_Dm n dom D)
    (K : ∀ dom' sv', (∀ w, w < n → rx_up D k (2 ^ b) w < 4 ∧ sv' w = nI (rx_up D k (2 ^ b) w)) → J (nI ((2 * hi + b) * 2 ^ k)) (nI k + (-1)) (nI n) (nI L) sk cl fd tab mk us rl fi se th asm dom' sv' tr tu fo ro) :
    wX_extreme_77 post J x1 (nI (hi * 2 ^ (k + 1))) (nI k) (nI b) (nI n) (nI L) sk cl fd tab mk us rl fi se th asm dom sv tr tu fo ro := by
  have p2 : 2 ^ b < 4 := Nat.lt_of_lt_of_le (Nat.pow_lt_pow_right (by decide) hb) (by decide)
  have d1 := rx_dm_up (v := k) hD p2
  have pk : 2 ^ k < 2 ^ 8 := Nat.pow_lt_pow_right (by decide) (by omega)
  have pb : b * 2 ^ k ≤ 1 * 2 ^ k := Nat.mul_le_mul_right _ (by omega)
  have en : nI (hi * 2 ^ (k + 1)) + (nI b <<< (nI k &&& 31)) = nI ((2 * hi + b) * 2 ^ k) := by
    rw [rb_shl (by omega) (by omega), nI_add]
    congr 1
    rw [Nat.add_mul, Nat.pow_succ, Nat.mul_comm (2 ^ k) 2, ← Nat.mul_assoc, Nat.mul_comm hi 2]
  refine And.intro (vp_in_nI (by omega) (by decide)) (nm_r (e' := upd dom k (nI (2 ^ b))) (by rw [nI_clamp (by omega), rb_one (by omega)]) (xk_keep (b := 0) (by decide) (fun sv' s1 _ => nm_r en (nm_e (K _ sv' (fun w hw => ⟨(d1 w hw).1, ?_⟩))))))
  have := s1 w (by omega)
  rw [Nat.zero_add] at this
  rw [this]; exact (d1 w hw).2
theorem xm_72 {post : Int32 → SX → Prop} {J : Int32 → Int32 → Int32 → Int32 → Int32 → Int32 → Int32 → (Nat → Int32) → (Nat → Int32) → (Nat → Int32) → (Nat → Int32) → (Nat → Int32) → (Nat → Int32) → (Nat → Int32) → (Nat → Int32) → (Nat → Int32) → (Nat → Int32) → (Nat → Int32) → (Nat → Int32) → (Nat → Int32) → (Nat → Int32) → Prop}
    {x1 : Int32} {hi b k : Nat} (hb : b < 2) (hk : k < n) (h8 : n ≤ 8) (hD : ∀ w, w < n → D w < 4 ∧ sv w = nI (D w))
    (K : ∀ dom' sv', (∀ w, w < n → rx_up D k (2 ^ b) w < 4 ∧ sv' w = nI (rx_up D k (2 ^ b) w)) → J (nI ((2 * hi + b) * 2 ^ k)) (nI k + (-1)) (nI n) (nI L) sk cl fd tab mk us rl fi se th asm dom' sv' tr tu fo ro) :
    wX_extreme_72 post J x1 (nI (hi * 2 ^ (k + 1))) (nI k) (nI b) (nI n) (nI L) sk cl fd tab mk us rl fi se th asm dom sv tr tu fo ro := by
  refine xk_fetch (b := 0) (by decide) (fun d1 h1 => xm_77 hb hk h8 (fun w hw => ⟨(hD w hw).1, ?_⟩) K)
  rw [h1 w (by omega), Nat.zero_add]; exact (hD w hw).2
theorem xm_pw : ∀ w, w < 2 → ∀ d, d < 4 → (d &&& 2 ^ w = 0 ∧ d.testBit w = false) ∨ (d &&& 2 ^ w = 2 ^ w ∧ d &&& 2 ^ w ≠ 0 ∧ d.testBit w = true) := by decide +kernel
/-- one value more fixed -/
theorem xm_fix {u b : Nat} {e : Nat → Bool} (hu : u < n) (hb : (D u).testBit b = true) : rn_Sol n (rx_Ac L sk) (fun c => T (R c)) X Y Z (rx_up D u (2 ^ b)) e ↔ (rn_Sol n (rx_Ac L sk) (fun c => T (R c)) X Y Z D e ∧ (e u).toNat = b) := by
  constructor
  · rintro ⟨h1, h2⟩
    have a := h1 u hu
    rw [rx_up_s, Nat.testBit_two_pow, decide_eq_true_eq] at a
    refine ⟨⟨fun w hw => ?_, h2⟩, a.symm⟩
    by_cases ew : w = u
    · rw [ew, ← a]; exact hb
    · have := h1 w hw
      rw [rx_up_n ew] at this; exact this
  · rintro ⟨⟨h1, h2⟩, h3⟩
    refine ⟨fun w hw => ?_, h2⟩
    by_cases ew : w = u
    · rw [ew, rx_up_s, Nat.testBit_two_pow, decide_eq_true_eq, h3]
    · rw [rx_up_n ew]; exact h1 w hw
theorem xm_loop {post : Int32 → SX → Prop} {w : Nat} {Q : Nat → Prop} (C : rx_C n L tab mk us rl fi se th asm T R X Y Z AS) (hw : w < 2)
    (h1 : ∀ m, m < 2 ^ n → Q m → (∀ m', m' < 2 ^ n → Q m' → ((w = 0 → m ≤ m') ∧ (w ≠ 0 → m' ≤ m))) → ∀ (cl' fd' : Int32) (dom' sv' tr' tu' fo' ro' : Nat → Int32), post (nI m) ((nI n), (nI L), sk, cl', fd', tab, mk, us, rl, fi, se, th, asm, dom', sv', tr', tu', fo', ro')) :
    ∀ (k q : Nat), k < q → k ≤ n → ∀ (hi : Nat) (D : Nat → Nat) (cl fd : Int32) (dom sv tr tu fo ro : Nat → Int32), (∀ v, v < n → D v < 4 ∧ sv v = nI (D v)) →
      xm_I n w k hi Q (fun m => rn_Sol n (rx_Ac L sk) (fun c => T (R c)) X Y Z D (fun v => m.testBit v)) → wX_extreme_23 post (nI w) q (nI (hi * 2 ^ k)) (nI k + (-1)) (nI n) (nI L) sk cl fd tab mk us rl fi se th asm dom sv tr tu fo ro := by
  have hn := C.1
  intro k
  induction k with
  | zero =>
    intro q hq _ hi D cl fd dom sv tr tu fo ro hD hI
    obtain ⟨q, rfl⟩ : ∃ j, q = j + 1 := ⟨q - 1, by omega⟩
    refine br_t (by decide) ?_
    obtain ⟨i1, ⟨m, hm, i2⟩, i3⟩ := hI
    have e := ((i1 m hm).mp i2)
    rw [Nat.pow_zero, Nat.div_one] at e
    rw [Nat.pow_zero, Nat.mul_one, ← e.2]
    refine h1 m hm e.1 (fun m' hm' q' => ?_) _ _ _ _ _ _ _ _
    have := i3 m' hm' q'
    rw [Nat.pow_zero, Nat.div_one, ← e.2] at this
    exact this
  | succ k ih =>
    intro q hq hk hi D cl fd dom sv tr tu fo ro hD hI
    obtain ⟨q, rfl⟩ : ∃ j, q = j + 1 := ⟨q - 1, by omega⟩
    rw [pk_m1]
    have hkn : k < n := hk
    have vk : vp_in (nI k) 8 := vp_in_nI (by omega) (by decide)
    have ex : ∀ {b : Nat}, (∃ e, rn_Sol n (rx_Ac L sk) (fun c => T (R c)) X Y Z (rx_up D k (2 ^ b)) e) ↔ ∃ m, m < 2 ^ n ∧ rn_Sol n (rx_Ac L sk) (fun c => T (R c)) X Y Z (rx_up D k (2 ^ b)) (fun v => m.testBit v) := rc_ex (xq_cg C)
    obtain ⟨i1, ⟨m0, hm0, i2⟩, i3⟩ := id hI
    have W2 : w = 0 ∨ w = 1 := by omega
    -- b is chosen
    have go : ∀ b, b < 2 → (D k).testBit b = true → (∃ m, m < 2 ^ n ∧ rn_Sol n (rx_Ac L sk) (fun c => T (R c)) X Y Z (rx_up D k (2 ^ b)) (fun v => m.testBit v)) → (b ≠ w → ∀ m, m < 2 ^ n → ¬ (rn_Sol n (rx_Ac L sk) (fun c => T (R c)) X Y Z D (fun v => m.testBit v) ∧ (m.testBit k).toNat = w)) →
        ∀ (cl fd : Int32) (dom' sv' tr tu fo ro : Nat → Int32), (∀ v, v < n → rx_up D k (2 ^ b) v < 4 ∧ sv' v = nI (rx_up D k (2 ^ b) v)) →
        wX_extreme_23 post (nI w) q (nI ((2 * hi + b) * 2 ^ k)) (nI k + (-1)) (nI n) (nI L) sk cl fd tab mk us rl fi se th asm dom' sv' tr tu fo ro := by
      intro b hb hDb hne hno cl fd dom' sv' tr tu fo ro hs
      exact ih q (by omega) (by omega) (2 * hi + b) (rx_up D k (2 ^ b)) cl fd dom' sv' tr tu fo ro hs (xm_step hI hb hw (fun m _ => xm_fix hkn hDb) hne hno)
    -- the other value, if the wanted one has no solution
    have oth : (∀ m, m < 2 ^ n → ¬ (rn_Sol n (rx_Ac L sk) (fun c => T (R c)) X Y Z D (fun v => m.testBit v) ∧ (m.testBit k).toNat = w)) → (D k).testBit (1 - w) = true ∧ (∃ m, m < 2 ^ n ∧ rn_Sol n (rx_Ac L sk) (fun c => T (R c)) X Y Z (rx_up D k (2 ^ (1 - w))) (fun v => m.testBit v)) := by
      intro hno
      have b0 : (m0.testBit k).toNat = 1 - w := by
        have := rb_lt (m0.testBit k)
        have : ¬ (m0.testBit k).toNat = w := fun z => hno m0 hm0 ⟨i2, z⟩
        omega
      have db : (D k).testBit (1 - w) = true := by
        have := i2.1 k hkn
        rw [b0] at this; exact this
      exact ⟨db, m0, hm0, (xm_fix hkn db).mpr ⟨i2, b0⟩⟩
    have e5 : (1 : Int32) - nI w = nI (1 - w) := pk_sub (a := 1) (by omega)
    refine br_f (nI_pos (by omega)) (xk_fetch (b := 0) (by decide) (fun d1 s1 => And.intro vk ?_))
    have dm1 : rx_Dm n d1 D := fun v hv => ⟨(hD v hv).1, by rw [s1 v (by omega), Nat.zero_add]; exact (hD v hv).2⟩
    have e4 : d1 (nI k).toNatClampNeg &&& ((1 : Int32) <<< (nI w &&& 31)) = nI (D k &&& 2 ^ w) := by
      rw [rx_dm dm1 hkn hn.2.1, rb_one (by omega), rb_and]
    have d4 := (hD k hkn).1
    have and4 := xw_and4 (b := 2 ^ w) d4
    refine nm_r e4 (nm_r e5 (pk_eq (D k &&& 2 ^ w) 0 (fun hz => ?_) (fun hz => And.intro vk ?_)))
    · have f := (xm_pw w hw (D k) d4).elim (fun z => z.2) (fun z => absurd hz z.2.1)
      have hno : ∀ m, m < 2 ^ n → ¬ (rn_Sol n (rx_Ac L sk) (fun c => T (R c)) X Y Z D (fun v => m.testBit v) ∧ (m.testBit k).toNat = w) := by
        rintro m _ ⟨g, g'⟩
        have := g.1 k hkn
        rw [g', f] at this; exact absurd this (by decide)
      obtain ⟨o1, o2⟩ := oth hno
      exact xm_77 (by omega) hkn hn.2.1 dm1 (fun d' s' hs' => go (1 - w) (by omega) o1 o2 (fun _ => hno) _ _ d' s' _ _ _ _ hs')
    · obtain ⟨a1, _, a3⟩ := (xm_pw w hw (D k) d4).resolve_left (fun z => hz z.1)
      refine nm_r (e' := upd d1 k (nI (2 ^ w))) (by rw [nI_clamp (by omega), a1]) ?_
      refine xq_decide C (rx_dm_up dm1 (by rw [← a1]; exact and4)) ?_
      intro cl' fd' dom' sv' tr' tu' fo' ro' hsv
      have hs' : ∀ v, v < n → D v < 4 ∧ sv' v = nI (D v) := fun v hv => ⟨(hD v hv).1, by rw [hsv v (by omega)]; exact (hD v hv).2⟩
      refine rt_if (fun hy => ?_) (fun hy => ?_)
      · exact xm_72 hw hkn hn.2.1 hs' (fun d' s' h' => go w hw a3 (ex.mp hy) (fun z => absurd rfl z) _ _ d' s' _ _ _ _ h')
      · have hno : ∀ m, m < 2 ^ n → ¬ (rn_Sol n (rx_Ac L sk) (fun c => T (R c)) X Y Z D (fun v => m.testBit v) ∧ (m.testBit k).toNat = w) := fun m _ g => hy ⟨_, (xm_fix hkn a3).mpr g⟩
        obtain ⟨o1, o2⟩ := oth hno
        exact xm_72 (by omega) hkn hn.2.1 hs' (fun d' s' h' => go (1 - w) (by omega) o1 o2 (fun _ => hno) _ _ d' s' _ _ _ _ h')
theorem xm_ext {post : Int32 → SX → Prop} {w : Nat} (C : rx_C n L tab mk us rl fi se th asm T R X Y Z AS) (hw : w < 2) (hD : rx_Dm n dom D)
    (h0 : (∀ m, m < 2 ^ n → ¬ rn_Sol n (rx_Ac L sk) (fun c => T (R c)) X Y Z D (fun v => m.testBit v)) → ∀ (cl' fd' : Int32) (dom' sv' tr' tu' fo' ro' : Nat → Int32), post (-1) ((nI n), (nI L), sk, cl', fd', tab, mk, us, rl, fi, se, th, asm, dom', sv', tr', tu', fo', ro'))
    (h1 : ∀ m, m < 2 ^ n → rn_Sol n (rx_Ac L sk) (fun c => T (R c)) X Y Z D (fun v => m.testBit v) → (∀ m', m' < 2 ^ n → rn_Sol n (rx_Ac L sk) (fun c => T (R c)) X Y Z D (fun v => m'.testBit v) → ((w = 0 → m ≤ m') ∧ (w ≠ 0 → m' ≤ m))) → ∀ (cl' fd' : Int32) (dom' sv' tr' tu' fo' ro' : Nat → Int32), post (nI m) ((nI n), (nI L), sk, cl', fd', tab, mk, us, rl, fi, se, th, asm, dom', sv', tr', tu', fo', ro')) :
    wpX_extreme post ((nI n), (nI L), sk, cl, fd, tab, mk, us, rl, fi, se, th, asm, dom, sv, tr, tu, fo, ro) (nI w) := by
  have hn := C.1
  refine xk_keep (b := 0) (by decide) (fun sv1 s1 _ => xq_decide C hD ?_)
  intro cl' fd' dom' sv' tr' tu' fo' ro' hsv
  refine rt_if (fun hy => ?_) (fun hy => h0 (fun m _ g => hy ⟨_, g⟩) _ _ _ _ _ _ _ _)
  have en : nI n - 1 = nI n + (-1) := by
    rw [show nI n - 1 = nI (n - 1) from pk_sub (b := 1) (by omega)]
    obtain ⟨j, rfl⟩ : ∃ j, n = j + 1 := ⟨n - 1, by omega⟩
    rw [pk_m1]; rfl
  refine nm_r en ⟨n + 1, ?_⟩
  have K := xm_loop (post := post) (w := w) (Q := fun m => rn_Sol n (rx_Ac L sk) (fun c => T (R c)) X Y Z D (fun v => m.testBit v)) C hw h1 n (n + 1) (by omega) (Nat.le_refl n) 0 D cl' fd' dom' sv' tr' tu' fo' ro' (fun v hv => ⟨(hD v hv).1, ?_⟩) ⟨fun m hm => ?_, ?_, fun m hm _ => ?_⟩
  · rw [Nat.zero_mul] at K; exact K
  · have := s1 v (by omega)
    rw [Nat.zero_add] at this
    rw [hsv v (by omega), this]; exact (hD v hv).2
  · exact ⟨fun g => ⟨g, Nat.div_eq_of_lt hm⟩, fun g => g.1⟩
  · exact (rc_ex (xq_cg C)).mp hy
  · rw [Nat.div_eq_of_lt hm]; exact ⟨fun _ => Nat.le_refl 0, fun _ => Nat.le_refl 0⟩
end
end
section
/-! the component's questions -/
theorem xz_add {s v j : Nat} (h : s < 2 ^ v) : (s + 2 ^ v).testBit j = (s.testBit j || decide (v = j)) := by
  have e : s + 2 ^ v = 2 ^ v * 1 ||| s := by
    rw [← Nat.two_pow_add_eq_or_of_lt h 1, Nat.mul_one, Nat.add_comm]
  rw [e, Nat.testBit_or, Nat.mul_one, Nat.testBit_two_pow, Bool.or_comm]
theorem xz_pre {n v m a : Nat} (hm : m < 2 ^ n) (ha : a < 2 ^ n) : (∀ u, v ≤ u → u < n → m.testBit u = a.testBit u) ↔ m / 2 ^ v = a / 2 ^ v := by
  constructor
  · intro h
    refine Nat.eq_of_testBit_eq (fun i => ?_)
    rw [Nat.testBit_div_two_pow, Nat.testBit_div_two_pow]
    by_cases hi : i + v < n
    · exact h (i + v) (by omega) hi
    · rw [Nat.testBit_lt_two_pow (Nat.lt_of_lt_of_le hm (rb_pw (by omega))), Nat.testBit_lt_two_pow (Nat.lt_of_lt_of_le ha (rb_pw (by omega)))]
  · intro h u h1 _
    have e : u = (u - v) + v := by omega
    rw [e, ← Nat.testBit_div_two_pow, ← Nat.testBit_div_two_pow, h]
section
variable {n L : Nat} {sk cl fd : Int32} {tab mk us rl fi se th asm dom sv tr tu fo ro : Nat → Int32} {T R X Y Z AS D : Nat → Nat}
theorem xz_01 {post : Int32 → SX → Prop} {p : Prop} {s : SX} (h : post (rt_fl p) s) : (rt_fl p = 0 → post 0 s) ∧ (¬ rt_fl p = 0 → post 1 s) :=
  rt_if (fun hp => by rw [rt_t hp] at h; exact h) (fun hp => by rw [rt_f hp] at h; exact h)
theorem xz_sat {post : Int32 → SX → Prop} (C : rx_C n L tab mk us rl fi se th asm T R X Y Z AS) (h : ∀ (cl' fd' : Int32) (dom' sv' tr' tu' fo' ro' : Nat → Int32), post (rt_fl (∃ e, rn_Sol n (rx_Ac L sk) (fun c => T (R c)) X Y Z (rx_as AS) e)) ((nI n), (nI L), sk, cl', fd', tab, mk, us, rl, fi, se, th, asm, dom', sv', tr', tu', fo', ro')) : wpX_satisfiable post ((nI n), (nI L), sk, cl, fd, tab, mk, us, rl, fi, se, th, asm, dom, sv, tr, tu, fo, ro) := by
  refine xd_set C (fun d1 h1 => xq_decide C h1 ?_)
  intro cl' fd' dom' sv' tr' tu' fo' ro' _
  exact xz_01 (h cl' fd' dom' sv' tr' tu' fo' ro')
theorem xz_sols {post : Int32 → SX → Prop} (C : rx_C n L tab mk us rl fi se th asm T R X Y Z AS) (h : ∀ (cl' fd' : Int32) (dom' sv' tr' tu' fo' ro' : Nat → Int32), post (nI (xh_c n L sk T R X Y Z (rx_as AS))) ((nI n), (nI L), sk, cl', fd', tab, mk, us, rl, fi, se, th, asm, dom', sv', tr', tu', fo', ro')) : wpX_solutions post ((nI n), (nI L), sk, cl, fd, tab, mk, us, rl, fi, se, th, asm, dom, sv, tr, tu, fo, ro) := by
  have hn := C.1
  refine xd_set C (fun d1 h1 => xn_net C (fun N hN => ?_))
  have n7 := xq_nt hN
  obtain ⟨_, _, l3⟩ := xq_12 N n7
  rw [show nI N &&& 32 = nI (N &&& 32) from rb_and N 32]
  refine pk_eq (N &&& 32) 0 (fun h32 => ?_) (fun h32 => ?_)
  · refine xh_search C (Or.inr rfl) h1 (fun r c' d' s' tr' tu' g1 g2 g3 g4 => ?_)
    rw [g1 rfl]
    exact h c' _ d' s' tr' tu' fo ro
  · have b5 : N.testBit 5 = true := (xq_b32 N n7).elim (fun q => absurd q.1 h32) (fun q => q.2)
    refine xe_elim C (fun c hc => (rt_tv_all _).2.2.2.2 (((hN 5).mp b5).2 c hc)) h1 (fun ro' W' a1 a2 a3 => br_f (by decide) (xe_rank hn.2.1 a1 ?_)) (fun ro' a => br_t rfl ?_)
    · have rl := ra_rk_le W' n
      rw [pk_sub rl, rb_one (by omega)]
      have e : xh_c n L sk T R X Y Z (rx_as AS) = 2 ^ (n - ra_rk W' n) := by
        rw [← ra_count a2 (fun _ => false)]
        exact rc_ct_c (fun e => (a3 e).symm) n _
      have g := h cl fd d1 sv tr tu fo ro'
      rw [e] at g; exact g
    · have g := h cl fd d1 sv tr tu fo ro'
      rw [xh_c_0 a] at g; exact g
theorem xz_least {post : Int32 → SX → Prop} (C : rx_C n L tab mk us rl fi se th asm T R X Y Z AS)
    (h0 : (∀ m, m < 2 ^ n → ¬ rn_Sol n (rx_Ac L sk) (fun c => T (R c)) X Y Z (rx_as AS) (fun v => m.testBit v)) → ∀ (cl' fd' : Int32) (dom' sv' tr' tu' fo' ro' : Nat → Int32), post (-1) ((nI n), (nI L), sk, cl', fd', tab, mk, us, rl, fi, se, th, asm, dom', sv', tr', tu', fo', ro'))
    (h1 : ∀ m, m < 2 ^ n → rn_Sol n (rx_Ac L sk) (fun c => T (R c)) X Y Z (rx_as AS) (fun v => m.testBit v) → (∀ m', m' < 2 ^ n → rn_Sol n (rx_Ac L sk) (fun c => T (R c)) X Y Z (rx_as AS) (fun v => m'.testBit v) → m ≤ m') → ∀ (cl' fd' : Int32) (dom' sv' tr' tu' fo' ro' : Nat → Int32), post (nI m) ((nI n), (nI L), sk, cl', fd', tab, mk, us, rl, fi, se, th, asm, dom', sv', tr', tu', fo', ro')) : wpX_least post ((nI n), (nI L), sk, cl, fd, tab, mk, us, rl, fi, se, th, asm, dom, sv, tr, tu, fo, ro) :=
  xd_set C (fun d1 k1 => xm_ext (w := 0) C (by decide) k1 (fun g => h0 g) (fun m hm g1 g2 => h1 m hm g1 (fun m' a b => (g2 m' a b).1 rfl)))
theorem xz_greatest {post : Int32 → SX → Prop} (C : rx_C n L tab mk us rl fi se th asm T R X Y Z AS)
    (h0 : (∀ m, m < 2 ^ n → ¬ rn_Sol n (rx_Ac L sk) (fun c => T (R c)) X Y Z (rx_as AS) (fun v => m.testBit v)) → ∀ (cl' fd' : Int32) (dom' sv' tr' tu' fo' ro' : Nat → Int32), post (-1) ((nI n), (nI L), sk, cl', fd', tab, mk, us, rl, fi, se, th, asm, dom', sv', tr', tu', fo', ro'))
    (h1 : ∀ m, m < 2 ^ n → rn_Sol n (rx_Ac L sk) (fun c => T (R c)) X Y Z (rx_as AS) (fun v => m.testBit v) → (∀ m', m' < 2 ^ n → rn_Sol n (rx_Ac L sk) (fun c => T (R c)) X Y Z (rx_as AS) (fun v => m'.testBit v) → m' ≤ m) → ∀ (cl' fd' : Int32) (dom' sv' tr' tu' fo' ro' : Nat → Int32), post (nI m) ((nI n), (nI L), sk, cl', fd', tab, mk, us, rl, fi, se, th, asm, dom', sv', tr', tu', fo', ro')) : wpX_greatest post ((nI n), (nI L), sk, cl, fd, tab, mk, us, rl, fi, se, th, asm, dom, sv, tr, tu, fo, ro) :=
  xd_set C (fun d1 k1 => xm_ext (w := 1) C (by decide) k1 (fun g => h0 g) (fun m hm g1 g2 => h1 m hm g1 (fun m' a b => (g2 m' a b).2 (by decide))))
theorem xz_share {post : SX → Prop} {a v : Nat} (h8 : n ≤ 8) (ha : a < 2 ^ 31) (hv : v < n) (hD : rx_Dm n dom D)
    (K : ∀ dom' D', rx_Dm n dom' D' → (∀ e, rn_Sol n (rx_Ac L sk) (fun c => T (R c)) X Y Z D' e ↔ (rn_Sol n (rx_Ac L sk) (fun c => T (R c)) X Y Z D e ∧ (∀ u, v < u → u < n → e u = a.testBit u) ∧ e v = true)) → post ((nI n), (nI L), sk, cl, fd, tab, mk, us, rl, fi, se, th, asm, dom', sv, tr, tu, fo, ro)) : wpX_shareAbove post ((nI n), (nI L), sk, cl, fd, tab, mk, us, rl, fi, se, th, asm, dom, sv, tr, tu, fo, ro) (nI a) (nI v) := by
  refine nm_r (nI_1 v) ?_
  have vv : vp_in (nI v) 8 := vp_in_nI (by omega) (by decide)
  refine pk_loop (fun q u (s : Nat → Int32) => wX_shareAbove_4 post (nI a) (nI v) (nI n) (nI L) sk cl fd q (nI u) tab mk us rl fi se th asm s sv tr tu fo ro) (fun u s => v < u ∧ ∃ D', rx_Dm n s D' ∧ ∀ e, rn_Sol n (rx_Ac L sk) (fun c => T (R c)) X Y Z D' e ↔ (rn_Sol n (rx_Ac L sk) (fun c => T (R c)) X Y Z D e ∧ ∀ w, v < w → w < u → e w = a.testBit w)) n (v + 1) dom (by omega)
    ⟨by omega, D, hD, fun e => ⟨fun g => ⟨g, fun w h1 h2 => absurd h1 (by omega)⟩, fun g => g.1⟩⟩ ?_ ?_
  · rintro q s ⟨_, D', d1, d2⟩
    have c := rx_dm_up (v := v) d1 (xw_and4 (b := 2 ^ 1) (d1 v hv).1)
    refine br_t (nI_le (Nat.le_refl n) (by omega)) (And.intro vv (And.intro vv (nm_r (e' := upd s v (nI (D' v &&& 2 ^ 1))) (by rw [nI_clamp (by omega), (d1 v hv).2]; exact congrArg (upd s v) (rb_and _ 2)) (K _ _ c (fun e => ?_)))))
    rw [xq_res hv, d2 e]
    have bt : (e v).toNat = 1 ↔ e v = true := by cases e v <;> decide
    rw [bt]
    exact ⟨fun g => ⟨g.1.1, g.1.2, g.2⟩, fun g => ⟨⟨g.1, g.2.1⟩, g.2.2⟩⟩
  · rintro q u s hu ⟨hvu, D', d1, d2⟩ K'
    have vu : vp_in (nI u) 8 := vp_in_nI (by omega) (by decide)
    obtain ⟨e1, c⟩ := xq_cut h8 d1 hu (rb_lt (a.testBit u))
    refine br_f (nI_ge hu (by omega)) (And.intro vu (And.intro vu ?_))
    rw [rb_bit ha (by omega)]
    refine nm_r e1 (nm_r (nI_1 u) (K' _ ⟨by omega, _, c, fun e => ?_⟩))
    rw [xq_res hu, d2 e]
    constructor
    · rintro ⟨⟨g1, g2⟩, g3⟩
      refine ⟨g1, fun w h1 h2 => ?_⟩
      by_cases ew : w = u
      · rw [ew]; exact rb_inj g3
      · exact g2 w h1 (by omega)
    · rintro ⟨g1, g2⟩
      refine ⟨⟨g1, fun w h1 h2 => g2 w h1 (by omega)⟩, ?_⟩
      rw [g2 u hvu (by omega)]
theorem xz_next {post : Int32 → SX → Prop} {p : Int32} (C : rx_C n L tab mk us rl fi se th asm T R X Y Z AS)
    (h0 : (∀ m, m < 2 ^ n → ¬ nI m ≤ p → ¬ rn_Sol n (rx_Ac L sk) (fun c => T (R c)) X Y Z (rx_as AS) (fun v => m.testBit v)) → ∀ (cl' fd' : Int32) (dom' sv' tr' tu' fo' ro' : Nat → Int32), post (-1) ((nI n), (nI L), sk, cl', fd', tab, mk, us, rl, fi, se, th, asm, dom', sv', tr', tu', fo', ro'))
    (h1 : ∀ m, m < 2 ^ n → ¬ nI m ≤ p → rn_Sol n (rx_Ac L sk) (fun c => T (R c)) X Y Z (rx_as AS) (fun v => m.testBit v) → (∀ m', m' < 2 ^ n → ¬ nI m' ≤ p → rn_Sol n (rx_Ac L sk) (fun c => T (R c)) X Y Z (rx_as AS) (fun v => m'.testBit v) → m ≤ m') → ∀ (cl' fd' : Int32) (dom' sv' tr' tu' fo' ro' : Nat → Int32), post (nI m) ((nI n), (nI L), sk, cl', fd', tab, mk, us, rl, fi, se, th, asm, dom', sv', tr', tu', fo', ro')) : wpX_next post ((nI n), (nI L), sk, cl, fd, tab, mk, us, rl, fi, se, th, asm, dom, sv, tr, tu, fo, ro) p := by
  have hn := C.1
  have p8 : 2 ^ n ≤ 2 ^ 8 := rb_pw hn.2.1
  have ppos := Nat.two_pow_pos n
  refine br_c (fun hp => ?_) (fun hp => ?_)
  · obtain ⟨a, ha, rfl⟩ := nI_of (x := p) (Int32.not_lt.mpr hp)
    have cmp : ∀ m, m < 2 ^ n → (¬ nI m ≤ nI a ↔ a < m) := fun m hm => by rw [nI_leI (by omega) ha]; omega
    have et : ((1 : Int32) <<< (nI n &&& 31)) - 1 = nI (2 ^ n - 1) := by
      rw [rb_one (by omega)]; exact pk_sub (b := 1) (by omega)
    refine nm_r et (pk_lt a (2 ^ n - 1) (fun hlt => ?_) (fun hge => h0 (fun m hm g => ?_) cl fd dom sv tr tu fo ro))
    · have key : ∀ (d q : Nat), d < q → ∀ v, v + d = n → (∀ m, m < 2 ^ n → a < m → rn_Sol n (rx_Ac L sk) (fun c => T (R c)) X Y Z (rx_as AS) (fun v => m.testBit v) → m / 2 ^ v ≠ a / 2 ^ v) → ∀ (cl fd : Int32) (dom sv tr tu fo ro : Nat → Int32),
          wX_next_32 post (nI a) q (nI v) (nI n) (nI L) sk cl fd tab mk us rl fi se th asm dom sv tr tu fo ro := by
        intro d
        induction d with
        | zero =>
          intro q hq v hv hI cl fd dom sv tr tu fo ro
          obtain ⟨q, rfl⟩ : ∃ j, q = j + 1 := ⟨q - 1, by omega⟩
          have ev : v = n := by omega
          subst ev
          refine br_t (nI_le (Nat.le_refl _) (by omega)) (h0 (fun m hm g gs => hI m hm ((cmp m hm).mp g) gs ?_) _ _ _ _ _ _ _ _)
          rw [Nat.div_eq_of_lt hm, Nat.div_eq_of_lt (by omega)]
        | succ d ih =>
          intro q hq v hv hI cl fd dom sv tr tu fo ro
          obtain ⟨q, rfl⟩ : ∃ j, q = j + 1 := ⟨q - 1, by omega⟩
          refine br_f (nI_ge (by omega) (by omega)) ?_
          rw [rb_bit ha (by omega)]
          have hb := rb_lt (a.testBit v)
          have tb : (a.testBit v).toNat = a / 2 ^ v % 2 := Nat.toNat_testBit a v
          refine pk_eq (a.testBit v).toNat 0 (fun hz => ?_) (fun hz => nm_r (nI_1 v) (ih q (by omega) (v + 1) (by omega) (fun m hm g gs => ?_) cl fd dom sv tr tu fo ro))
          · refine xd_set C (fun d1 k1 => xz_share (T := T) (R := R) (X := X) (Y := Y) (Z := Z) hn.2.1 ha (by omega) k1 (fun d2 D2 k2 k3 => ?_))
            have k4 : ∀ m, m < 2 ^ n → (rn_Sol n (rx_Ac L sk) (fun c => T (R c)) X Y Z D2 (fun v => m.testBit v) ↔ (rn_Sol n (rx_Ac L sk) (fun c => T (R c)) X Y Z (rx_as AS) (fun v => m.testBit v) ∧ m / 2 ^ v = a / 2 ^ v + 1)) := by
              intro m hm
              rw [k3]
              have pre := xz_pre (v := v + 1) hm (by omega : a < 2 ^ n)
              have tm : (m.testBit v).toNat = m / 2 ^ v % 2 := Nat.toNat_testBit m v
              have bt : m.testBit v = true ↔ (m.testBit v).toNat = 1 := by cases m.testBit v <;> decide
              rw [show (∀ u, v < u → u < n → m.testBit u = a.testBit u) ↔ m / 2 ^ (v + 1) = a / 2 ^ (v + 1) from pre, xm_half, xm_half, bt, tm]
              generalize m / 2 ^ v = t
              generalize a / 2 ^ v = s at tb
              constructor
              · rintro ⟨x1, x2, x3⟩
                exact ⟨x1, by omega⟩
              · rintro ⟨x1, x2⟩
                exact ⟨x1, by omega, by omega⟩
            refine xm_ext (w := 0) C (by decide) k2 (fun g => ?_) (fun m hm g1 g2 => ?_)
            · intro cl' fd' dom' sv' tr' tu' fo' ro'
              refine br_t (by decide) (nm_r (nI_1 v) (ih q (by omega) (v + 1) (by omega) (fun m hm g3 gs => ?_) cl' fd' dom' sv' tr' tu' fo' ro'))
              have g4 := hI m hm g3 gs
              have g5 := Nat.div_le_div_right (c := 2 ^ v) (Nat.le_of_lt g3)
              have g6 : ¬ m / 2 ^ v = a / 2 ^ v + 1 := fun z => g m hm ((k4 m hm).mpr ⟨gs, z⟩)
              rw [xm_half, xm_half]
              generalize m / 2 ^ v = t at *
              generalize a / 2 ^ v = s at *
              omega
            · intro cl' fd' dom' sv' tr' tu' fo' ro'
              refine br_f (nI_pos (by omega)) (h1 m hm ((cmp m hm).mpr ?_) ((k4 m hm).mp g1).1 (fun m' hm' x1 x2 => ?_) cl' fd' dom' sv' tr' tu' fo' ro')
              · refine Nat.lt_of_not_le (fun z => ?_)
                have := Nat.div_le_div_right (c := 2 ^ v) z
                have := ((k4 m hm).mp g1).2
                omega
              · have x1' := (cmp m' hm').mp x1
                have y1 := hI m' hm' x1' x2
                have y2 := Nat.div_le_div_right (c := 2 ^ v) (Nat.le_of_lt x1')
                have y3 := ((k4 m hm).mp g1).2
                by_cases y4 : m' / 2 ^ v = a / 2 ^ v + 1
                · exact (g2 m' hm' ((k4 m' hm').mpr ⟨x2, y4⟩)).1 rfl
                · refine Nat.le_of_not_lt (fun z => ?_)
                  have := Nat.div_le_div_right (c := 2 ^ v) (Nat.le_of_lt z)
                  omega
          · have g4 := hI m hm g gs
            have g5 := Nat.div_le_div_right (c := 2 ^ v) (Nat.le_of_lt g)
            rw [xm_half, xm_half]
            generalize m / 2 ^ v = t at *
            generalize a / 2 ^ v = s at *
            omega
      refine ⟨n + 1, key n (n + 1) (by omega) 0 (by omega) (fun m hm g _ => ?_) cl fd dom sv tr tu fo ro⟩
      rw [Nat.pow_zero, Nat.div_one, Nat.div_one]; omega
    · exact absurd ((cmp m hm).mp g) (by omega)
  · have neg : ∀ m, m < 2 ^ n → ¬ nI m ≤ p := fun m hm g => hp (Int32.le_trans (nI_pos' (by omega)) g)
    exact xd_set C (fun d1 k1 => xm_ext (w := 0) C (by decide) k1 (fun g => h0 (fun m hm _ => g m hm)) (fun m hm g1 g2 => h1 m hm (neg m hm) g1 (fun m' a _ b => (g2 m' a b).1 rfl)))
theorem xz_always {post : Int32 → SX → Prop} {w : Nat} (C : rx_C n L tab mk us rl fi se th asm T R X Y Z AS) (hw : w < 2)
    (h0 : (¬ ∃ e, rn_Sol n (rx_Ac L sk) (fun c => T (R c)) X Y Z (rx_as AS) e) → ∀ (cl' fd' : Int32) (dom' sv' tr' tu' fo' ro' : Nat → Int32), post (-1) ((nI n), (nI L), sk, cl', fd', tab, mk, us, rl, fi, se, th, asm, dom', sv', tr', tu', fo', ro'))
    (h1 : (∃ e, rn_Sol n (rx_Ac L sk) (fun c => T (R c)) X Y Z (rx_as AS) e) → ∀ s, s < 2 ^ n → (∀ j, s.testBit j = true ↔ (j < n ∧ ¬ ∃ e, rn_Sol n (rx_Ac L sk) (fun c => T (R c)) X Y Z (rx_as AS) e ∧ (e j).toNat = 1 - w)) → ∀ (cl' fd' : Int32) (dom' sv' tr' tu' fo' ro' : Nat → Int32), post (nI s) ((nI n), (nI L), sk, cl', fd', tab, mk, us, rl, fi, se, th, asm, dom', sv', tr', tu', fo', ro')) : wpX_always post ((nI n), (nI L), sk, cl, fd, tab, mk, us, rl, fi, se, th, asm, dom, sv, tr, tu, fo, ro) (nI w) := by
  have hn := C.1
  refine xd_set C (fun d1 k1 => xq_decide C k1 ?_)
  intro cl' fd' dom' sv' tr' tu' fo' ro' _
  refine rt_if (fun hy => ?_) (fun hy => h0 hy _ _ _ _ _ _ _ _)
  have e5 : (1 : Int32) - nI w = nI (1 - w) := pk_sub (a := 1) (by omega)
  have key : ∀ (d q : Nat), d < q → ∀ v, v + d = n → ∀ s, s < 2 ^ v → (∀ j, s.testBit j = true ↔ (j < v ∧ ¬ ∃ e, rn_Sol n (rx_Ac L sk) (fun c => T (R c)) X Y Z (rx_as AS) e ∧ (e j).toNat = 1 - w)) → ∀ (cl fd : Int32) (dom sv tr tu fo ro : Nat → Int32),
      wX_always_17 post (nI w) q (nI s) (nI v) (nI n) (nI L) sk cl fd tab mk us rl fi se th asm dom sv tr tu fo ro := by
    intro d
    induction d with
    | zero =>
      intro q hq v hv s hs hI cl fd dom sv tr tu fo ro
      obtain ⟨q, rfl⟩ : ∃ j, q = j + 1 := ⟨q - 1, by omega⟩
      have ev : v = n := by omega
      subst ev
      exact br_t (nI_le (Nat.le_refl _) (by omega)) (h1 hy s hs hI _ _ _ _ _ _ _ _)
    | succ d ih =>
      intro q hq v hv s hs hI cl fd dom sv tr tu fo ro
      obtain ⟨q, rfl⟩ : ∃ j, q = j + 1 := ⟨q - 1, by omega⟩
      have p2 : (2 : Nat) ^ (v + 1) = 2 * 2 ^ v := by rw [Nat.pow_succ]; omega
      refine br_f (nI_ge (by omega) (by omega)) ?_
      rw [e5]
      refine xq_can C (by omega) (by omega) (by omega) (by omega) ?_
      intro cl' fd' dom' sv' tr' tu' fo' ro'
      refine rt_if (fun hc => nm_r (nI_1 v) (ih q (by omega) (v + 1) (by omega) s (by omega) (fun j => ?_) _ _ _ _ _ _ _ _)) (fun hc => nm_r (e' := nI (s + 2 ^ v)) (by rw [rb_one (by omega), nI_add]) (nm_r (nI_1 v) (ih q (by omega) (v + 1) (by omega) (s + 2 ^ v) (by omega) (fun j => ?_) _ _ _ _ _ _ _ _)))
      · rw [hI j]
        refine ⟨fun g => ⟨by omega, g.2⟩, fun g => ⟨?_, g.2⟩⟩
        by_cases ej : j = v
        · obtain ⟨e, x1, x2, _⟩ := hc
          exact absurd ⟨e, x1, by rw [ej]; exact x2⟩ g.2
        · omega
      · rw [xz_add hs, Bool.or_eq_true, hI j, decide_eq_true_eq]
        constructor
        · rintro (g | g)
          · exact ⟨by omega, g.2⟩
          · refine ⟨by omega, fun ⟨e, x1, x2⟩ => hc ⟨e, x1, ?_, ?_⟩⟩
            · rw [g]; exact x2
            · rw [g]; exact x2
        · rintro ⟨g1, g2⟩
          by_cases ej : v = j
          · exact Or.inr ej
          · exact Or.inl ⟨by omega, g2⟩
  exact ⟨n + 1, key n (n + 1) (by omega) 0 (by omega) 0 (by decide) (fun j => ⟨fun g => by rw [Nat.zero_testBit] at g; exact absurd g (by decide), fun g => absurd g.1 (by omega)⟩) _ _ _ _ _ _ _ _⟩
theorem xz_pairs {post : Int32 → SX → Prop} {x y : Nat} (C : rx_C n L tab mk us rl fi se th asm T R X Y Z AS) (hx : x < n) (hy : y < n)
    (h : ∀ s, s < 2 ^ 4 → (∀ k, s.testBit k = true ↔ (k < 4 ∧ ∃ e, rn_Sol n (rx_Ac L sk) (fun c => T (R c)) X Y Z (rx_as AS) e ∧ (e x).toNat = (k.testBit 1).toNat ∧ (e y).toNat = (k.testBit 0).toNat)) → ∀ (cl' fd' : Int32) (dom' sv' tr' tu' fo' ro' : Nat → Int32), post (nI s) ((nI n), (nI L), sk, cl', fd', tab, mk, us, rl, fi, se, th, asm, dom', sv', tr', tu', fo', ro')) :
    ∃ q, wX_pairs_23 post (nI x) (nI y) q 0 0 (nI n) (nI L) sk cl fd tab mk us rl fi se th asm dom sv tr tu fo ro := by
  have hn := C.1
  have key : ∀ (d q : Nat), d < q → ∀ k, k + d = 4 → ∀ s, s < 2 ^ k → (∀ j, s.testBit j = true ↔ (j < k ∧ ∃ e, rn_Sol n (rx_Ac L sk) (fun c => T (R c)) X Y Z (rx_as AS) e ∧ (e x).toNat = (j.testBit 1).toNat ∧ (e y).toNat = (j.testBit 0).toNat)) → ∀ (cl fd : Int32) (dom sv tr tu fo ro : Nat → Int32),
      wX_pairs_23 post (nI x) (nI y) q (nI s) (nI k) (nI n) (nI L) sk cl fd tab mk us rl fi se th asm dom sv tr tu fo ro := by
    intro d
    induction d with
    | zero =>
      intro q hq k hk s hs hI cl fd dom sv tr tu fo ro
      obtain ⟨q, rfl⟩ : ∃ j, q = j + 1 := ⟨q - 1, by omega⟩
      have ek : k = 4 := by omega
      subst ek
      exact br_t (by decide) (h s hs hI _ _ _ _ _ _ _ _)
    | succ d ih =>
      intro q hq k hk s hs hI cl fd dom sv tr tu fo ro
      obtain ⟨q, rfl⟩ : ∃ j, q = j + 1 := ⟨q - 1, by omega⟩
      have p2 : (2 : Nat) ^ (k + 1) = 2 * 2 ^ k := by rw [Nat.pow_succ]; omega
      obtain ⟨k1, k0⟩ := xc_k4 k (by omega)
      refine br_f (nI_ge (b := 4) (by omega) (by decide)) ?_
      rw [show nI k >>> ((1 : Int32) &&& 31) = nI (k.testBit 1).toNat by rw [← k1]; exact rb_shr (k := 1) (by omega) (by decide), show nI k &&& 1 = nI (k.testBit 0).toNat by rw [← k0]; exact rb_and k 1]
      refine xq_can C hx hy (rb_lt _) (rb_lt _) ?_
      intro cl' fd' dom' sv' tr' tu' fo' ro'
      refine rt_if (fun hc => nm_r (e' := nI (s + 2 ^ k)) (by rw [rb_one (by omega), nI_add]) (nm_r (nI_1 k) (ih q (by omega) (k + 1) (by omega) (s + 2 ^ k) (by omega) (fun j => ?_) _ _ _ _ _ _ _ _))) (fun hc => nm_r (nI_1 k) (ih q (by omega) (k + 1) (by omega) s (by omega) (fun j => ?_) _ _ _ _ _ _ _ _))
      · rw [xz_add hs, Bool.or_eq_true, hI j, decide_eq_true_eq]
        constructor
        · rintro (g | g)
          · exact ⟨by omega, g.2⟩
          · exact ⟨by omega, by rw [← g]; exact hc⟩
        · rintro ⟨g1, g2⟩
          by_cases ej : k = j
          · exact Or.inr ej
          · exact Or.inl ⟨by omega, g2⟩
      · rw [hI j]
        refine ⟨fun g => ⟨by omega, g.2⟩, fun g => ⟨?_, g.2⟩⟩
        by_cases ej : j = k
        · have := g.2
          rw [ej] at this
          exact absurd this hc
        · omega
  exact ⟨5, key 4 5 (by omega) 0 (by omega) 0 (by decide) (fun j => ⟨fun g => by rw [Nat.zero_testBit] at g; exact absurd g (by decide), fun g => absurd g.1 (by omega)⟩) _ _ _ _ _ _ _ _⟩
theorem xz_within {post : Int32 → SX → Prop} {x y z Tn : Nat} (C : rx_C n L tab mk us rl fi se th asm T R X Y Z AS) (hx : x < n) (hy : y < n) (hz : z < n) (hT : Tn < 256)
    (h : ∀ (cl' fd' : Int32) (dom' sv' tr' tu' fo' ro' : Nat → Int32), post (rt_fl (∀ e, rn_Sol n (rx_Ac L sk) (fun c => T (R c)) X Y Z (rx_as AS) e → Tn.testBit (rn_tri (e x) (e y) (e z)) = true)) ((nI n), (nI L), sk, cl', fd', tab, mk, us, rl, fi, se, th, asm, dom', sv', tr', tu', fo', ro')) : wpX_allWithin post ((nI n), (nI L), sk, cl, fd, tab, mk, us, rl, fi, se, th, asm, dom, sv, tr, tu, fo, ro) (nI Tn) (nI x) (nI y) (nI z) := by
  have hn := C.1
  have key : ∀ (d q : Nat), d < q → ∀ t, t + d = 8 → (∀ e, rn_Sol n (rx_Ac L sk) (fun c => T (R c)) X Y Z (rx_as AS) e → ∀ t', t' < t → Tn.testBit t' = false → rn_tri (e x) (e y) (e z) ≠ t') → ∀ (cl fd : Int32) (dom sv tr tu fo ro : Nat → Int32),
      wX_allWithin_3 post (nI Tn) (nI x) (nI y) (nI z) q (nI t) (nI n) (nI L) sk cl fd tab mk us rl fi se th asm dom sv tr tu fo ro := by
    intro d
    induction d with
    | zero =>
      intro q hq t ht hI cl fd dom sv tr tu fo ro
      obtain ⟨q, rfl⟩ : ∃ j, q = j + 1 := ⟨q - 1, by omega⟩
      have et : t = 8 := by omega
      subst et
      have g := h cl fd dom sv tr tu fo ro
      rw [rt_t (fun e he => ?_)] at g
      · exact br_t (by decide) g
      · cases hb : Tn.testBit (rn_tri (e x) (e y) (e z))
        · exact absurd rfl (hI e he _ (rn_tri_lt _ _ _) hb)
        · rfl
    | succ d ih =>
      intro q hq t ht hI cl fd dom sv tr tu fo ro
      obtain ⟨q, rfl⟩ : ∃ j, q = j + 1 := ⟨q - 1, by omega⟩
      obtain ⟨t2, t1, t0⟩ := rb_t3 t (by omega)
      have vx : vp_in (nI x) 8 := vp_in_nI (by omega) (by decide)
      have vy : vp_in (nI y) 8 := vp_in_nI (by omega) (by decide)
      have vz : vp_in (nI z) 8 := vp_in_nI (by omega) (by decide)
      have e9 : (nI t >>> ((1 : Int32) &&& 31)) &&& 1 = nI (t.testBit 1).toNat := by
        rw [show nI t >>> ((1 : Int32) &&& 31) = nI (t >>> 1) from rb_shr (k := 1) (by omega) (by decide), ← t1]
        exact rb_and _ 1
      have e8 : nI t >>> ((2 : Int32) &&& 31) = nI (t.testBit 2).toNat := by
        rw [← t2]; exact rb_shr (k := 2) (by omega) (by decide)
      have e10 : nI t &&& 1 = nI (t.testBit 0).toNat := by
        rw [← t0]; exact rb_and _ 1
      refine br_f (nI_ge (b := 8) (by omega) (by decide)) (rb_hif (by omega) (by omega) (fun hb => nm_r (nI_1 t) (ih q (by omega) (t + 1) (by omega) (fun e he t' ht' hf => ?_) _ _ _ _ _ _ _ _)) (fun hb => ?_))
      · by_cases et : t' = t
        · rw [et, hb] at hf; exact absurd hf (by decide)
        · exact hI e he t' (by omega) hf
      · rw [e8, e9, e10]
        refine xd_set C (fun d1 k1 => ?_)
        obtain ⟨c1, k2⟩ := xq_cut hn.2.1 k1 hx (rb_lt (t.testBit 2))
        obtain ⟨c2, k3⟩ := xq_cut hn.2.1 k2 hy (rb_lt (t.testBit 1))
        obtain ⟨c3, k4⟩ := xq_cut hn.2.1 k3 hz (rb_lt (t.testBit 0))
        refine And.intro vx (And.intro vx (nm_r c1 (And.intro vy (And.intro vy (nm_r c2 (And.intro vz (And.intro vz (nm_r c3 (xq_decide C k4 ?_)))))))))
        intro cl' fd' dom' sv' tr' tu' fo' ro' _
        have iff1 : ∀ e : Nat → Bool, ((((e x).toNat = (t.testBit 2).toNat ∧ (e y).toNat = (t.testBit 1).toNat) ∧ (e z).toNat = (t.testBit 0).toNat) ↔ rn_tri (e x) (e y) (e z) = t) := by
          intro e
          constructor
          · rintro ⟨⟨a, b⟩, c⟩
            rw [rb_inj a, rb_inj b, rb_inj c]; exact rn_tri_of t (by omega)
          · intro g
            rw [← g, (rn_tri_b (e x) (e y) (e z)).1, (rn_tri_b (e x) (e y) (e z)).2.1, (rn_tri_b (e x) (e y) (e z)).2.2]
            exact ⟨⟨rfl, rfl⟩, rfl⟩
        refine rt_if (fun hs => ?_) (fun hs => nm_r (nI_1 t) (ih q (by omega) (t + 1) (by omega) (fun e he t' ht' hf g => ?_) _ _ _ _ _ _ _ _))
        · obtain ⟨e, he⟩ := hs
          rw [xq_res hz, xq_res hy, xq_res hx] at he
          have g := h cl' fd' dom' sv' tr' tu' fo' ro'
          rw [rt_f (fun q => ?_)] at g
          · exact g
          · have r := q e he.1.1.1
            rw [(iff1 e).mp ⟨⟨he.1.1.2, he.1.2⟩, he.2⟩, hb] at r
            exact absurd r (by decide)
        · by_cases et : t' = t
          · rw [et] at g
            have r := (iff1 e).mpr g
            refine hs ⟨e, ?_⟩
            rw [xq_res hz, xq_res hy, xq_res hx]
            exact ⟨⟨⟨he, r.1.1⟩, r.1.2⟩, r.2⟩
          · exact hI e he t' (by omega) hf g
  exact ⟨9, key 8 9 (by omega) 0 (by omega) (fun e _ t' ht' => absurd ht' (by omega)) _ _ _ _ _ _ _ _⟩
end
end
section
/-! the reference: solves, and the questions by trying all numbers -/
def ym_Q (n L : Nat) (T R X Y Z AS : Nat → Nat) (m : Nat) : Prop := rn_Sol n (rx_Ac L (-1)) (fun c => T (R c)) X Y Z (rx_as AS) (fun v => m.testBit v)
theorem rt_eqf {p q A B : Prop} (ht : (p ↔ q) → A) (hf : ¬ (p ↔ q) → B) : (rt_fl p = rt_fl q → A) ∧ (¬ rt_fl p = rt_fl q → B) := by
  by_cases hp : p
  · by_cases hq : q
    · rw [rt_t hp, rt_t hq]; exact br_t rfl (ht ⟨fun _ => hq, fun _ => hp⟩)
    · rw [rt_t hp, rt_f hq]; exact br_f (by decide) (hf (fun g => hq (g.mp hp)))
  · by_cases hq : q
    · rw [rt_f hp, rt_t hq]; exact br_f (by decide) (hf (fun g => hp (g.mpr hq)))
    · rw [rt_f hp, rt_f hq]; exact br_t rfl (ht ⟨fun g => absurd g hp, fun g => absurd g hq⟩)
section
variable {n L : Nat} {sk cl fd : Int32} {tab mk us rl fi se th asm dom sv tr tu fo ro : Nat → Int32} {T R X Y Z AS D : Nat → Nat}
theorem yv_mem {post : Int32 → Prop} {r t : Nat} (C : rx_C n L tab mk us rl fi se th asm T R X Y Z AS) (hr : r < 6) (ht : t < 32) (h : post (rt_fl ((T r).testBit t = true))) : wpY_member post ((nI n), (nI L), tab, asm, rl, fi, se, th) (nI r) (nI t) := by
  have hT := rx_T C hr
  refine And.intro (vp_in_nI hr (by decide)) ?_
  rw [rx_tab C hr, rb_bit (by omega) ht]
  cases hb : (T r).testBit t
  · rw [hb, rt_f (by decide)] at h; exact br_f (by decide) h
  · rw [hb, rt_t (by decide)] at h; exact br_t (by decide) h
theorem yv_met {post : Int32 → Prop} {r x y z m : Nat} (C : rx_C n L tab mk us rl fi se th asm T R X Y Z AS) (hr : r < 6) (hx : x < n) (hy : y < n) (hz : z < n) (hm : m < 2 ^ 31)
    (h : post (rt_fl ((T r).testBit (rn_tri (m.testBit x) (m.testBit y) (m.testBit z)) = true))) : wpY_met post ((nI n), (nI L), tab, asm, rl, fi, se, th) (nI r) (nI x) (nI y) (nI z) (nI m) := by
  have hn := C.1
  have hl := rn_tri_lt (m.testBit x) (m.testBit y) (m.testBit z)
  simp only [wpY_met, wpY_valueOf]
  rw [rb_bit hm (by omega), rb_bit hm (by omega), rb_bit hm (by omega), show (4 : Int32) * nI (m.testBit x).toNat = nI (4 * (m.testBit x).toNat) from pk_mul 4 _, show (2 : Int32) * nI (m.testBit y).toNat = nI (2 * (m.testBit y).toNat) from pk_mul 2 _, nI_add, nI_add]
  exact yv_mem C hr (t := rn_tri (m.testBit x) (m.testBit y) (m.testBit z)) (by omega) ⟨rt_nar _, h⟩
theorem ys_as : ∀ a, a < 3 → a ≠ 2 → ∀ b : Bool, (2 ^ a).testBit b.toNat = true ↔ a = b.toNat := by decide +kernel
theorem ys_solves {post : Int32 → Prop} {m : Nat} (C : rx_C n L tab mk us rl fi se th asm T R X Y Z AS) (hm : m < 2 ^ 31) (h : post (rt_fl (rn_Sol n (rx_Ac L sk) (fun c => T (R c)) X Y Z (rx_as AS) (fun v => m.testBit v)))) : wpY_solves post ((nI n), (nI L), tab, asm, rl, fi, se, th) (nI m) sk := by
  have hn := C.1
  show ∃ q, wY_solves_2 post (nI m) sk (nI n) (nI L) tab asm rl fi se th q 0
  refine loop_0 (fun q v (_ : Unit) => wY_solves_2 post (nI m) sk (nI n) (nI L) tab asm rl fi se th q (nI v)) (fun v _ => ∀ w, w < v → (rx_as AS w).testBit (m.testBit w).toNat = true) n () (fun w hw => absurd hw (by omega)) ?_ ?_
  · intro q _ hs
    refine br_t (nI_le (Nat.le_refl n) (by omega)) (loop_0 (fun q c (_ : Unit) => wY_solves_51 post (nI m) sk (nI n) (nI L) tab asm rl fi se th q (nI c)) (fun c _ => ∀ c', c' < c → rx_Ac L sk c' → (T (R c')).testBit (rn_tri (m.testBit (X c')) (m.testBit (Y c')) (m.testBit (Z c'))) = true) L () (fun c hc => absurd hc (by omega)) ?_ ?_)
    · intro q _ hc
      rw [rt_t ⟨hs, fun c ha => hc c ha.1 ha⟩] at h
      exact br_t (nI_le (Nat.le_refl L) (by omega)) h
    · intro q c _ hc hI K
      have vi : vp_in (nI c) 20 := vp_in_nI (by omega) (by decide)
      refine br_f (nI_ge hc (by omega)) (br_f (nI_ge (b := 20) (by omega) (by decide)) (br_c (fun he => nm_r (nI_1 c) (K () (fun c' hc' ha => ?_))) (fun he => And.intro vi (And.intro vi (And.intro vi (And.intro vi ?_))))))
      · by_cases ec : c' = c
        · rw [ec] at ha; exact absurd he ha.2
        · exact hI c' (by omega) ha
      · rw [rx_rl C hc, rx_fi C hc, rx_se C hc, rx_th C hc]
        obtain ⟨hx, hy, hz⟩ := rx_X C hc
        refine yv_met C (rx_R C hc) hx hy hz hm (rt_if (fun hp => nm_r (nI_1 c) (K () (fun c' hc' ha => ?_))) (fun hp => ?_))
        · by_cases ec : c' = c
          · rw [ec]; exact hp
          · exact hI c' (by omega) ha
        · rw [rt_f (fun g => hp (g.2 c ⟨hc, he⟩))] at h; exact h
  · intro q v _ hv hs K
    obtain ⟨h3, _⟩ := C.2.2.2 v (by omega)
    have vv : vp_in (nI v) 8 := vp_in_nI (by omega) (by decide)
    have hb := rb_lt (m.testBit v)
    refine br_f (nI_ge hv (by omega)) (br_f (nI_ge (b := 8) (by omega) (by decide)) (And.intro vv ?_))
    rw [rx_asm C (by omega)]
    refine pk_eq (AS v) 2 (fun h2 => nm_r (nI_1 v) (K () (fun w hw => ?_))) (fun h2 => And.intro vv ?_)
    · by_cases ew : w = v
      · rw [ew]; unfold rx_as; rw [if_pos h2]; exact xe_33 _
      · exact hs w (by omega)
    · simp only [wpY_valueOf]
      rw [rb_bit hm (by omega)]
      have key := ys_as (AS v) h3 h2 (m.testBit v)
      have ea : rx_as AS v = 2 ^ AS v := by unfold rx_as; rw [if_neg h2]
      refine pk_eq (AS v) (m.testBit v).toNat (fun he => nm_r (nI_1 v) (K () (fun w hw => ?_))) (fun he => ?_)
      · by_cases ew : w = v
        · rw [ew, ea]; exact key.mpr he
        · exact hs w (by omega)
      · rw [rt_f (fun g => ?_)] at h
        · exact h
        · have := g.1 v hv
          rw [ea] at this
          exact he (key.mp this)
theorem ys_sol {post : Int32 → Prop} {m : Nat} (C : rx_C n L tab mk us rl fi se th asm T R X Y Z AS) (hm : m < 2 ^ 31) (h : post (rt_fl (ym_Q n L T R X Y Z AS m))) : wpY_solution post ((nI n), (nI L), tab, asm, rl, fi, se, th) (nI m) :=
  ys_solves (sk := -1) C hm ⟨rt_nar _, h⟩
theorem ys_all {post : Int32 → Prop} (C : rx_C n L tab mk us rl fi se th asm T R X Y Z AS) (h : post (nI (2 ^ n))) : wpY_all post ((nI n), (nI L), tab, asm, rl, fi, se, th) := by
  have hn := C.1
  show post ((1 : Int32) <<< (nI n &&& 31))
  rw [rb_one (by omega)]; exact h
theorem ys_pw (C : rx_C n L tab mk us rl fi se th asm T R X Y Z AS) : 2 ^ n ≤ 256 := rb_pw (b := 8) C.1.2.1
theorem ya_sat {post : Int32 → Prop} (C : rx_C n L tab mk us rl fi se th asm T R X Y Z AS) (h : post (rt_fl (∃ m, m < 2 ^ n ∧ ym_Q n L T R X Y Z AS m))) : wpY_satisfiable post ((nI n), (nI L), tab, asm, rl, fi, se, th) := by
  have hp := ys_pw C
  show ∃ q, wY_satisfiable_2 post (nI n) (nI L) tab asm rl fi se th q 0
  refine loop_0 (fun q m (_ : Unit) => wY_satisfiable_2 post (nI n) (nI L) tab asm rl fi se th q (nI m)) (fun m _ => ∀ k, k < m → ¬ ym_Q n L T R X Y Z AS k) (2 ^ n) () (fun w hw => absurd hw (by omega)) ?_ ?_
  · intro q _ hs
    rw [rt_f (fun ⟨m, a, b⟩ => hs m a b)] at h
    simp only [wY_satisfiable_2]
    exact ys_all C (br_t (nI_le (Nat.le_refl (2 ^ n)) (by omega)) h)
  · intro q m _ hm hs K
    simp only [wY_satisfiable_2]
    refine ys_all C (br_f (nI_ge hm (by omega)) (ys_sol (m := m) C (by omega) (rt_if (fun hq => ?_) (fun hq => nm_r (nI_1 m) (K () (fun k hk => ?_))))))
    · rw [rt_t ⟨m, hm, hq⟩] at h; exact h
    · by_cases e : k = m
      · rw [e]; exact hq
      · exact hs k (by omega)
theorem ya_sols {post : Int32 → Prop} (C : rx_C n L tab mk us rl fi se th asm T R X Y Z AS) (h : post (nI (rc_cn (ym_Q n L T R X Y Z AS) (2 ^ n)))) : wpY_solutions post ((nI n), (nI L), tab, asm, rl, fi, se, th) := by
  have hp := ys_pw C
  show ∃ q, wY_solutions_4 post (nI n) (nI L) tab asm rl fi se th q 0 0
  refine loop_0 (fun q m (s : Int32) => wY_solutions_4 post (nI n) (nI L) tab asm rl fi se th q s (nI m)) (fun m s => s = nI (rc_cn (ym_Q n L T R X Y Z AS) m)) (2 ^ n) 0 rfl ?_ ?_
  · rintro q s rfl
    simp only [wY_solutions_4]
    exact ys_all C (br_t (nI_le (Nat.le_refl (2 ^ n)) (by omega)) h)
  · rintro q m s hm rfl K
    simp only [wY_solutions_4]
    refine ys_all C (br_f (nI_ge hm (by omega)) (ys_sol (m := m) C (by omega) (rt_if (fun hq => nm_r (nI_1 _) (nm_r (nI_1 m) (K _ ?_))) (fun hq => nm_r (nI_1 m) (K _ ?_)))))
    · show nI (rc_cn (ym_Q n L T R X Y Z AS) m + 1) = nI (rc_cn (ym_Q n L T R X Y Z AS) m + rc_b (ym_Q n L T R X Y Z AS m))
      rw [rc_t hq]
    · show nI (rc_cn (ym_Q n L T R X Y Z AS) m) = nI (rc_cn (ym_Q n L T R X Y Z AS) m + rc_b (ym_Q n L T R X Y Z AS m))
      rw [rc_f hq, Nat.add_zero]
theorem ya_least {post : Int32 → Prop} (C : rx_C n L tab mk us rl fi se th asm T R X Y Z AS) (h0 : (∀ m, m < 2 ^ n → ¬ ym_Q n L T R X Y Z AS m) → post (-1)) (h1 : ∀ m, m < 2 ^ n → ym_Q n L T R X Y Z AS m → (∀ k, k < m → ¬ ym_Q n L T R X Y Z AS k) → post (nI m)) : wpY_least post ((nI n), (nI L), tab, asm, rl, fi, se, th) := by
  have hp := ys_pw C
  show ∃ q, wY_least_2 post (nI n) (nI L) tab asm rl fi se th q 0
  refine loop_0 (fun q m (_ : Unit) => wY_least_2 post (nI n) (nI L) tab asm rl fi se th q (nI m)) (fun m _ => ∀ k, k < m → ¬ ym_Q n L T R X Y Z AS k) (2 ^ n) () (fun w hw => absurd hw (by omega)) ?_ ?_
  · intro q _ hs
    simp only [wY_least_2]
    exact ys_all C (br_t (nI_le (Nat.le_refl (2 ^ n)) (by omega)) (h0 hs))
  · intro q m _ hm hs K
    simp only [wY_least_2]
    refine ys_all C (br_f (nI_ge hm (by omega)) (ys_sol (m := m) C (by omega) (rt_if (fun hq => h1 m hm hq hs) (fun hq => nm_r (nI_1 m) (K () (fun k hk => ?_))))))
    by_cases e : k = m
    · rw [e]; exact hq
    · exact hs k (by omega)
theorem ya_greatest {post : Int32 → Prop} (C : rx_C n L tab mk us rl fi se th asm T R X Y Z AS) (h0 : (∀ m, m < 2 ^ n → ¬ ym_Q n L T R X Y Z AS m) → post (-1)) (h1 : ∀ m, m < 2 ^ n → ym_Q n L T R X Y Z AS m → (∀ k, k < 2 ^ n → ym_Q n L T R X Y Z AS k → k ≤ m) → post (nI m)) : wpY_greatest post ((nI n), (nI L), tab, asm, rl, fi, se, th) := by
  have hp := ys_pw C
  show ∃ q, wY_greatest_4 post (nI n) (nI L) tab asm rl fi se th q (-1) 0
  refine loop_0 (fun q m (s : Int32) => wY_greatest_4 post (nI n) (nI L) tab asm rl fi se th q s (nI m)) (fun m s => (s = -1 ∧ ∀ k, k < m → ¬ ym_Q n L T R X Y Z AS k) ∨ ∃ j, j < m ∧ ym_Q n L T R X Y Z AS j ∧ s = nI j ∧ ∀ k, k < m → ym_Q n L T R X Y Z AS k → k ≤ j) (2 ^ n) (-1) (Or.inl ⟨rfl, fun w hw => absurd hw (by omega)⟩) ?_ ?_
  · rintro q s (⟨rfl, g⟩ | ⟨j, g1, g2, rfl, g3⟩)
    · simp only [wY_greatest_4]
      exact ys_all C (br_t (nI_le (Nat.le_refl (2 ^ n)) (by omega)) (h0 g))
    · simp only [wY_greatest_4]
      exact ys_all C (br_t (nI_le (Nat.le_refl (2 ^ n)) (by omega)) (h1 j g1 g2 g3))
  · intro q m s hm hs K
    simp only [wY_greatest_4]
    refine ys_all C (br_f (nI_ge hm (by omega)) (ys_sol (m := m) C (by omega) (rt_if (fun hq => nm_r (nI_1 m) (K _ (Or.inr ⟨m, by omega, hq, rfl, fun k hk _ => by omega⟩))) (fun hq => nm_r (nI_1 m) (K _ ?_)))))
    rcases hs with ⟨g1, g2⟩ | ⟨j, g1, g2, g3, g4⟩
    · refine Or.inl ⟨g1, fun k hk => ?_⟩
      by_cases e : k = m
      · rw [e]; exact hq
      · exact g2 k (by omega)
    · refine Or.inr ⟨j, by omega, g2, g3, fun k hk hk' => ?_⟩
      by_cases e : k = m
      · rw [e] at hk'; exact absurd hk' hq
      · exact g4 k (by omega) hk'
theorem ya_next {post : Int32 → Prop} {p : Int32} (C : rx_C n L tab mk us rl fi se th asm T R X Y Z AS) (h0 : (∀ m, m < 2 ^ n → ¬ nI m ≤ p → ¬ ym_Q n L T R X Y Z AS m) → post (-1)) (h1 : ∀ m, m < 2 ^ n → ¬ nI m ≤ p → ym_Q n L T R X Y Z AS m → (∀ k, k < m → ¬ nI k ≤ p → ¬ ym_Q n L T R X Y Z AS k) → post (nI m)) : wpY_next post ((nI n), (nI L), tab, asm, rl, fi, se, th) p := by
  have hp := ys_pw C
  show ∃ q, wY_next_2 post p (nI n) (nI L) tab asm rl fi se th q 0
  refine loop_0 (fun q m (_ : Unit) => wY_next_2 post p (nI n) (nI L) tab asm rl fi se th q (nI m)) (fun m _ => ∀ k, k < m → ¬ nI k ≤ p → ¬ ym_Q n L T R X Y Z AS k) (2 ^ n) () (fun w hw => absurd hw (by omega)) ?_ ?_
  · intro q _ hs
    simp only [wY_next_2]
    exact ys_all C (br_t (nI_le (Nat.le_refl (2 ^ n)) (by omega)) (h0 hs))
  · intro q m _ hm hs K
    simp only [wY_next_2]
    refine ys_all C (br_f (nI_ge hm (by omega)) (br_c (fun hle => nm_r (nI_1 m) (K () (fun k hk hk' => ?_))) (fun hle => ys_sol (m := m) C (by omega) (rt_if (fun hq => h1 m hm hle hq hs) (fun hq => nm_r (nI_1 m) (K () (fun k hk hk' => ?_)))))))
    · by_cases e : k = m
      · rw [e] at hk'; exact absurd hle hk'
      · exact hs k (by omega) hk'
    · by_cases e : k = m
      · rw [e]; exact hq
      · exact hs k (by omega) hk'
theorem ya_possible {post : Int32 → Prop} {v b : Nat} (C : rx_C n L tab mk us rl fi se th asm T R X Y Z AS) (hv : v < n) (hb : b < 2) (h : post (rt_fl (∃ m, m < 2 ^ n ∧ ym_Q n L T R X Y Z AS m ∧ (m.testBit v).toNat = b))) : ∃ q, wY_possible_24 post (nI v) (nI b) (nI n) (nI L) tab asm rl fi se th q 0 := by
  have hp := ys_pw C
  have hn := C.1
  refine loop_0 (fun q m (_ : Unit) => wY_possible_24 post (nI v) (nI b) (nI n) (nI L) tab asm rl fi se th q (nI m)) (fun m _ => ∀ k, k < m → ¬ (ym_Q n L T R X Y Z AS k ∧ (k.testBit v).toNat = b)) (2 ^ n) () (fun w hw => absurd hw (by omega)) ?_ ?_
  · intro q _ hs
    rw [rt_f (fun ⟨m, a, c⟩ => hs m a c)] at h
    simp only [wY_possible_24]
    exact ys_all C (br_t (nI_le (Nat.le_refl (2 ^ n)) (by omega)) h)
  · intro q m _ hm hs K
    have lb := rb_lt (m.testBit v)
    have next : ¬ (ym_Q n L T R X Y Z AS m ∧ (m.testBit v).toNat = b) → wY_possible_24 post (nI v) (nI b) (nI n) (nI L) tab asm rl fi se th q (nI (m + 1)) := fun g => K () (fun k hk => by
      by_cases e : k = m
      · rw [e]; exact g
      · exact hs k (by omega))
    simp only [wY_possible_24]
    refine ys_all C (br_f (nI_ge hm (by omega)) ?_)
    simp only [wpY_valueOf]
    rw [rb_bit (by omega) (by omega)]
    refine pk_eq (m.testBit v).toNat b (fun he => ys_sol (m := m) C (by omega) (rt_if (fun hq => ?_) (fun hq => nm_r (nI_1 m) (next (fun g => hq g.1))))) (fun he => nm_r (nI_1 m) (next (fun g => he g.2)))
    rw [rt_t ⟨m, hm, hq, he⟩] at h; exact h
theorem ya_one {post : Int32 → Prop} (C : rx_C n L tab mk us rl fi se th asm T R X Y Z AS) (h0 : (∀ m, m < 2 ^ n → ¬ ym_Q n L T R X Y Z AS m) → post (-1))
    (h1 : ∀ m, m < 2 ^ n → ym_Q n L T R X Y Z AS m → ∀ s, (∀ j, s.testBit j = true ↔ (j < n ∧ ∀ k, k < 2 ^ n → ym_Q n L T R X Y Z AS k → k.testBit j = true)) → post (nI s)) : wpY_alwaysOne post ((nI n), (nI L), tab, asm, rl, fi, se, th) := by
  have hp := ys_pw C
  have hpos := Nat.two_pow_pos n
  simp only [wpY_alwaysOne]
  refine ys_all C (nm_r (show nI (2 ^ n) - 1 = nI (2 ^ n - 1) from pk_sub (b := 1) (by omega)) ?_)
  refine loop_0 (fun q m (s : Int32 × Int32) => wY_alwaysOne_11 post (nI n) (nI L) tab asm rl fi se th q s.1 s.2 (nI m)) (fun m s => s.1 = rt_fl (∃ k, k < m ∧ ym_Q n L T R X Y Z AS k) ∧ ∃ o : Nat, s.2 = nI o ∧ ∀ j, o.testBit j = true ↔ (j < n ∧ ∀ k, k < m → ym_Q n L T R X Y Z AS k → k.testBit j = true)) (2 ^ n) (0, nI (2 ^ n - 1))
    ⟨(rt_f (fun ⟨k, hk, _⟩ => absurd hk (by omega))).symm, _, rfl, fun j => ?_⟩ ?_ ?_
  · rw [Nat.testBit_two_pow_sub_one, decide_eq_true_eq]
    exact ⟨fun g => ⟨g, fun k hk => absurd hk (by omega)⟩, fun g => g.1⟩
  · rintro q ⟨a, s⟩ ⟨g1, o, g2, g3⟩
    have g1' : a = rt_fl (∃ k, k < 2 ^ n ∧ ym_Q n L T R X Y Z AS k) := g1
    have g2' : s = nI o := g2
    subst g1' g2'
    simp only [wY_alwaysOne_11]
    refine ys_all C (br_t (nI_le (Nat.le_refl (2 ^ n)) (by omega)) (rt_if (fun ⟨m, hm, hq⟩ => h1 m hm hq o g3) (fun hq => h0 (fun m hm g => hq ⟨m, hm, g⟩))))
  · rintro q m ⟨a, s⟩ hm ⟨g1, o, g2, g3⟩ K
    have g1' : a = rt_fl (∃ k, k < m ∧ ym_Q n L T R X Y Z AS k) := g1
    have g2' : s = nI o := g2
    subst g1' g2'
    simp only [wY_alwaysOne_11]
    refine ys_all C (br_f (nI_ge hm (by omega)) (ys_sol (m := m) C (by omega) (rt_if (fun hq => nm_r (rb_and o m) (nm_r (nI_1 m) (K (1, _) ⟨(rt_t ⟨m, by omega, hq⟩).symm, _, rfl, fun j => ?_⟩))) (fun hq => nm_r (nI_1 m) (K (_, _) ⟨rt_c ⟨fun ⟨k, a, b⟩ => ⟨k, by omega, b⟩, fun ⟨k, a, b⟩ => ⟨k, ?_, b⟩⟩, _, rfl, fun j => ?_⟩)))))
    · rw [Nat.testBit_and, Bool.and_eq_true, g3 j]
      constructor
      · rintro ⟨⟨x1, x2⟩, x3⟩
        refine ⟨x1, fun k hk hk' => ?_⟩
        by_cases e : k = m
        · rw [e]; exact x3
        · exact x2 k (by omega) hk'
      · rintro ⟨x1, x2⟩
        exact ⟨⟨x1, fun k hk => x2 k (by omega)⟩, x2 m (by omega) hq⟩
    · by_cases e : k = m
      · rw [e] at b; exact absurd b hq
      · omega
    · rw [g3 j]
      refine ⟨fun g => ⟨g.1, fun k hk hk' => ?_⟩, fun g => ⟨g.1, fun k hk => g.2 k (by omega)⟩⟩
      by_cases e : k = m
      · rw [e] at hk'; exact absurd hk' hq
      · exact g.2 k (by omega) hk'
theorem ya_zero {post : Int32 → Prop} (C : rx_C n L tab mk us rl fi se th asm T R X Y Z AS) (h0 : (∀ m, m < 2 ^ n → ¬ ym_Q n L T R X Y Z AS m) → post (-1))
    (h1 : ∀ m, m < 2 ^ n → ym_Q n L T R X Y Z AS m → ∀ s, (∀ j, s.testBit j = true ↔ (j < n ∧ ∀ k, k < 2 ^ n → ym_Q n L T R X Y Z AS k → k.testBit j = false)) → post (nI s)) : wpY_alwaysZero post ((nI n), (nI L), tab, asm, rl, fi, se, th) := by
  have hp := ys_pw C
  have hpos := Nat.two_pow_pos n
  simp only [wpY_alwaysZero]
  refine ys_all C (nm_r (show nI (2 ^ n) - 1 = nI (2 ^ n - 1) from pk_sub (b := 1) (by omega)) ?_)
  refine loop_0 (fun q m (s : Int32 × Int32) => wY_alwaysZero_11 post (nI n) (nI L) tab asm rl fi se th q s.1 s.2 (nI m)) (fun m s => s.1 = rt_fl (∃ k, k < m ∧ ym_Q n L T R X Y Z AS k) ∧ ∃ o : Nat, s.2 = nI o ∧ ∀ j, o.testBit j = true ↔ (j < n ∧ ∀ k, k < m → ym_Q n L T R X Y Z AS k → k.testBit j = false)) (2 ^ n) (0, nI (2 ^ n - 1))
    ⟨(rt_f (fun ⟨k, hk, _⟩ => absurd hk (by omega))).symm, _, rfl, fun j => ?_⟩ ?_ ?_
  · rw [Nat.testBit_two_pow_sub_one, decide_eq_true_eq]
    exact ⟨fun g => ⟨g, fun k hk => absurd hk (by omega)⟩, fun g => g.1⟩
  · rintro q ⟨a, s⟩ ⟨g1, o, g2, g3⟩
    have g1' : a = rt_fl (∃ k, k < 2 ^ n ∧ ym_Q n L T R X Y Z AS k) := g1
    have g2' : s = nI o := g2
    subst g1' g2'
    simp only [wY_alwaysZero_11]
    refine ys_all C (br_t (nI_le (Nat.le_refl (2 ^ n)) (by omega)) (rt_if (fun ⟨m, hm, hq⟩ => h1 m hm hq o g3) (fun hq => h0 (fun m hm g => hq ⟨m, hm, g⟩))))
  · rintro q m ⟨a, s⟩ hm ⟨g1, o, g2, g3⟩ K
    have g1' : a = rt_fl (∃ k, k < m ∧ ym_Q n L T R X Y Z AS k) := g1
    have g2' : s = nI o := g2
    subst g1' g2'
    have em : nI o &&& ((nI (2 ^ n) - 1) - nI m) = nI (o &&& (2 ^ n - (m + 1))) := by
      rw [show nI (2 ^ n) - 1 = nI (2 ^ n - 1) from pk_sub (b := 1) (by omega), pk_sub (by omega), rb_and, Nat.sub_sub, Nat.add_comm 1 m]
    simp only [wY_alwaysZero_11]
    refine ys_all C (br_f (nI_ge hm (by omega)) (ys_sol (m := m) C (by omega) (rt_if (fun hq => ys_all C (nm_r em (nm_r (nI_1 m) (K (1, _) ⟨(rt_t ⟨m, by omega, hq⟩).symm, _, rfl, fun j => ?_⟩)))) (fun hq => nm_r (nI_1 m) (K (_, _) ⟨rt_c ⟨fun ⟨k, a, b⟩ => ⟨k, by omega, b⟩, fun ⟨k, a, b⟩ => ⟨k, ?_, b⟩⟩, _, rfl, fun j => ?_⟩)))))
    · rw [Nat.testBit_and, Bool.and_eq_true, g3 j, Nat.testBit_two_pow_sub_succ hm, Bool.and_eq_true, decide_eq_true_eq, Bool.not_eq_true']
      constructor
      · rintro ⟨⟨x1, x2⟩, _, x3⟩
        refine ⟨x1, fun k hk hk' => ?_⟩
        by_cases e : k = m
        · rw [e]; exact x3
        · exact x2 k (by omega) hk'
      · rintro ⟨x1, x2⟩
        exact ⟨⟨x1, fun k hk => x2 k (by omega)⟩, x1, x2 m (by omega) hq⟩
    · by_cases e : k = m
      · rw [e] at b; exact absurd b hq
      · omega
    · rw [g3 j]
      refine ⟨fun g => ⟨g.1, fun k hk hk' => ?_⟩, fun g => ⟨g.1, fun k hk => g.2 k (by omega)⟩⟩
      by_cases e : k = m
      · rw [e] at hk'; exact absurd hk' hq
      · exact g.2 k (by omega) hk'
theorem ya_pairs {post : Int32 → Prop} {x y : Nat} (C : rx_C n L tab mk us rl fi se th asm T R X Y Z AS) (hx : x < n) (hy : y < n)
    (h : ∀ s, (∀ k, s.testBit k = true ↔ ∃ m, m < 2 ^ n ∧ ym_Q n L T R X Y Z AS m ∧ 2 * (m.testBit x).toNat + (m.testBit y).toNat = k) → post (nI s)) : ∃ q, wY_pairs_23 post (nI x) (nI y) (nI n) (nI L) tab asm rl fi se th q 0 0 := by
  have hp := ys_pw C
  have hn := C.1
  refine loop_0 (fun q m (s : Int32) => wY_pairs_23 post (nI x) (nI y) (nI n) (nI L) tab asm rl fi se th q s (nI m)) (fun m s => ∃ o : Nat, s = nI o ∧ ∀ k, o.testBit k = true ↔ ∃ m', m' < m ∧ ym_Q n L T R X Y Z AS m' ∧ 2 * (m'.testBit x).toNat + (m'.testBit y).toNat = k) (2 ^ n) 0
    ⟨0, rfl, fun k => ⟨fun g => by rw [Nat.zero_testBit] at g; exact absurd g (by decide), fun ⟨m, hm, _⟩ => absurd hm (by omega)⟩⟩ ?_ ?_
  · rintro q s ⟨o, rfl, g⟩
    simp only [wY_pairs_23]
    exact ys_all C (br_t (nI_le (Nat.le_refl (2 ^ n)) (by omega)) (h o g))
  · rintro q m s hm ⟨o, rfl, g⟩ K
    have lx := rb_lt (m.testBit x)
    have ly := rb_lt (m.testBit y)
    simp only [wY_pairs_23]
    refine ys_all C (br_f (nI_ge hm (by omega)) (ys_sol (m := m) C (by omega) (rt_if (fun hq => ?_) (fun hq => nm_r (nI_1 m) (K _ ⟨o, rfl, fun k => ?_⟩)))))
    · simp only [wpY_valueOf]
      rw [rb_bit (by omega) (by omega), rb_bit (by omega) (by omega), show (2 : Int32) * nI (m.testBit x).toNat = nI (2 * (m.testBit x).toNat) from pk_mul 2 _, nI_add, rb_one (by omega), rb_or]
      refine nm_e (nm_r (nI_1 m) (K _ ⟨_, rfl, fun k => ?_⟩))
      rw [Nat.testBit_or, Nat.testBit_two_pow, Bool.or_eq_true, decide_eq_true_eq, g k]
      constructor
      · rintro (⟨m', a, b⟩ | e)
        · exact ⟨m', by omega, b⟩
        · exact ⟨m, by omega, hq, e⟩
      · rintro ⟨m', a, b, c⟩
        by_cases e : m' = m
        · rw [e] at c; exact Or.inr c
        · exact Or.inl ⟨m', by omega, b, c⟩
    · rw [g k]
      constructor
      · rintro ⟨m', a, b⟩
        exact ⟨m', by omega, b⟩
      · rintro ⟨m', a, b, c⟩
        by_cases e : m' = m
        · rw [e] at b; exact absurd b hq
        · exact ⟨m', by omega, b, c⟩
theorem ya_entails {post : Int32 → Prop} {r x y z : Nat} (C : rx_C n L tab mk us rl fi se th asm T R X Y Z AS) (hr : r < 6) (hx : x < n) (hy : y < n) (hz : z < n)
    (h : post (rt_fl (∀ m, m < 2 ^ n → ym_Q n L T R X Y Z AS m → (T r).testBit (rn_tri (m.testBit x) (m.testBit y) (m.testBit z)) = true))) : ∃ q, wY_entails_41 post (nI r) (nI x) (nI y) (nI z) (nI n) (nI L) tab asm rl fi se th q 0 := by
  have hp := ys_pw C
  refine loop_0 (fun q m (_ : Unit) => wY_entails_41 post (nI r) (nI x) (nI y) (nI z) (nI n) (nI L) tab asm rl fi se th q (nI m)) (fun m _ => ∀ k, k < m → ym_Q n L T R X Y Z AS k → (T r).testBit (rn_tri (k.testBit x) (k.testBit y) (k.testBit z)) = true) (2 ^ n) () (fun w hw => absurd hw (by omega)) ?_ ?_
  · intro q _ hs
    rw [rt_t hs] at h
    simp only [wY_entails_41]
    exact ys_all C (br_t (nI_le (Nat.le_refl (2 ^ n)) (by omega)) h)
  · intro q m _ hm hs K
    have next : (ym_Q n L T R X Y Z AS m → (T r).testBit (rn_tri (m.testBit x) (m.testBit y) (m.testBit z)) = true) → wY_entails_41 post (nI r) (nI x) (nI y) (nI z) (nI n) (nI L) tab asm rl fi se th q (nI (m + 1)) := fun g => K () (fun k hk => by
      by_cases e : k = m
      · rw [e]; exact g
      · exact hs k (by omega))
    simp only [wY_entails_41]
    refine ys_all C (br_f (nI_ge hm (by omega)) (ys_sol (m := m) C (by omega) (rt_if (fun hq => yv_met (m := m) C hr hx hy hz (by omega) (rt_if (fun ht => nm_r (nI_1 m) (next (fun _ => ht))) (fun ht => ?_))) (fun hq => nm_r (nI_1 m) (next (fun g => absurd g hq))))))
    rw [rt_f (fun g => ht (g m hm hq))] at h; exact h
theorem ya_redundant {post : Int32 → Prop} {i : Nat} (C : rx_C n L tab mk us rl fi se th asm T R X Y Z AS)
    (h : post (rt_fl (∀ m, m < 2 ^ n → (ym_Q n L T R X Y Z AS m ↔ rn_Sol n (rx_Ac L (nI i)) (fun c => T (R c)) X Y Z (rx_as AS) (fun v => m.testBit v))))) : ∃ q, wY_redundant_12 post (nI i) (nI n) (nI L) tab asm rl fi se th q 0 := by
  have hp := ys_pw C
  refine loop_0 (fun q m (_ : Unit) => wY_redundant_12 post (nI i) (nI n) (nI L) tab asm rl fi se th q (nI m)) (fun m _ => ∀ k, k < m → (ym_Q n L T R X Y Z AS k ↔ rn_Sol n (rx_Ac L (nI i)) (fun c => T (R c)) X Y Z (rx_as AS) (fun v => k.testBit v))) (2 ^ n) () (fun w hw => absurd hw (by omega)) ?_ ?_
  · intro q _ hs
    rw [rt_t hs] at h
    simp only [wY_redundant_12]
    exact ys_all C (br_t (nI_le (Nat.le_refl (2 ^ n)) (by omega)) h)
  · intro q m _ hm hs K
    simp only [wY_redundant_12]
    refine ys_all C (br_f (nI_ge hm (by omega)) (ys_solves (m := m) (sk := -1) C (by omega) (ys_solves (m := m) (sk := nI i) C (by omega) (rt_eqf (fun hq => nm_r (nI_1 m) (K () (fun k hk => ?_))) (fun hq => ?_)))))
    · by_cases e : k = m
      · rw [e]; exact hq
      · exact hs k (by omega)
    · rw [rt_f (fun g => hq (g m hm))] at h; exact h
end
end
section
/-! the reference's traits and net traits -/
def yt_lw (a b c d f : Nat) : Nat := 4 * a + 8 * b + 16 * c + 32 * d + 64 * f
theorem yt_or (a : Nat) (ha : a < 2) (b : Nat) (hb : b < 2) (c : Nat) (hc : c < 2) (d : Nat) (hd : d < 2) (f : Nat) (hf : f < 2) :
    yt_lw a b c d f ||| 4 = yt_lw 1 b c d f ∧ yt_lw a b c d f ||| 8 = yt_lw a 1 c d f ∧ yt_lw a b c d f ||| 16 = yt_lw a b 1 d f ∧ yt_lw a b c d f ||| 32 = yt_lw a b c 1 f ∧ yt_lw a b c d f ||| 64 = yt_lw a b c d 1 := by
  have ha' : a = 0 ∨ a = 1 := by omega
  have hb' : b = 0 ∨ b = 1 := by omega
  have hc' : c = 0 ∨ c = 1 := by omega
  have hd' : d = 0 ∨ d = 1 := by omega
  have hf' : f = 0 ∨ f = 1 := by omega
  rcases ha' with rfl | rfl <;> rcases hb' with rfl | rfl <;> rcases hc' with rfl | rfl <;> rcases hd' with rfl | rfl <;> rcases hf' with rfl | rfl <;> decide
theorem yt_c2 {b : Bool} {f : Nat} (h : f < 2) : cond b f 1 < 2 := by cases b <;> simp <;> omega
theorem yt_up {P : Nat → Prop} {k : Nat} {b : Bool} (hb : b = true ↔ P k) : cond b (rc_b (¬ rt_A P k)) 1 = rc_b (¬ rt_A P (k + 1)) := by
  cases b
  · have : ¬ P k := fun g => absurd (hb.mpr g) (by decide)
    exact (rc_t (fun g => this ((rt_As P k).mp g).2)).symm
  · have := hb.mp rfl
    show rc_b (¬ rt_A P k) = _
    rw [propext (rt_Au this)]
def yt_cA (T : Nat) : Nat → Prop := rt_c3 (fun _ t s => T.testBit (s &&& t) = true) T
def yt_cB (T : Nat) : Nat → Prop := rt_c3 (fun _ t s => T.testBit (s ||| t) = true) T
def yt_cC (T : Nat) : Nat → Prop := rt_c3 (fun u t s => T.testBit (rt_mj s t u) = true) T
def yt_cD (T : Nat) : Nat → Prop := rt_c3 (fun u t s => T.testBit ((s ^^^ t) ^^^ u) = true) T
def yt_cF (T : Nat) : Nat → Prop := rt_c3 (fun _ _ s => T.testBit (7 - s) = true) T
theorem yt_iA (T : Nat) : rt_A (yt_cA T) 512 ↔ rt_MC T := by
  unfold yt_cA
  rw [rt_c3_iff]
  exact ⟨fun h s hs t ht a b => h t ht b t ht b s hs a, fun h u _ _ t ht b s hs a => h s hs t ht a b⟩
theorem yt_iB (T : Nat) : rt_A (yt_cB T) 512 ↔ rt_JC T := by
  unfold yt_cB
  rw [rt_c3_iff]
  exact ⟨fun h s hs t ht a b => h t ht b t ht b s hs a, fun h u _ _ t ht b s hs a => h s hs t ht a b⟩
theorem yt_iC (T : Nat) : rt_A (yt_cC T) 512 ↔ rt_OC T := by
  unfold yt_cC
  rw [rt_c3_iff]
  exact ⟨fun h s hs a t ht b u hu c => h u hu c t ht b s hs a, fun h u hu c t ht b s hs a => h s hs a t ht b u hu c⟩
theorem yt_iD (T : Nat) : rt_A (yt_cD T) 512 ↔ ra_PC T := by
  unfold yt_cD
  rw [rt_c3_iff]
  exact ⟨fun h s hs a t ht b u hu c => h u hu c t ht b s hs a, fun h u hu c t ht b s hs a => h s hs a t ht b u hu c⟩
theorem yt_iF (T : Nat) : rt_A (yt_cF T) 512 ↔ rt_FC T := by
  unfold yt_cF
  rw [rt_c3_iff]
  exact ⟨fun h s hs a => h s hs a s hs a s hs a, fun h u _ _ t _ _ s hs a => h s hs a⟩
theorem yt_m2 (a : Nat) : nI (a + 2) + (-2) = nI a := by
  rw [← nI_add, Int32.add_assoc, show nI 2 + (-2) = (0 : Int32) from by decide, Int32.add_zero]
section
variable {n L : Nat} {sk cl fd : Int32} {tab mk us rl fi se th asm dom sv tr tu fo ro : Nat → Int32} {T R X Y Z AS D : Nat → Nat}
theorem yb_ok {post : Int32 → Prop} {r : Nat} (hr : r < 6) (h : post 0) : wpY_badRel post ((nI n), (nI L), tab, asm, rl, fi, se, th) (nI r) :=
  br_f (nI_pos (by omega)) (br_t (nI_le (b := 5) (by omega) (by decide)) h)
theorem rg_ok {A B E : Prop} {r : Nat} (hr : r < 6) (h : B) : (nI r < 0 → A) ∧ (¬ nI r < 0 → ((nI r ≤ 5 → B) ∧ (¬ nI r ≤ 5 → E))) :=
  br_f (nI_pos (by omega)) (br_t (nI_le (b := 5) (by omega) (by decide)) h)
theorem rg_5 {p : Int32} (h : nI 6 ≤ p) : ¬ p < 0 ∧ ¬ p ≤ 5 := by
  have h0 : ¬ p < 0 := fun g => Int32.lt_irrefl (Int32.lt_of_le_of_lt h (Int32.lt_trans g (by decide)))
  exact ⟨h0, fun g => by
    have := Int32.le_trans h g
    exact absurd this (by decide)⟩
theorem rg_bad {A B E : Prop} {p : Int32} (hb : p < 0 ∨ nI 6 ≤ p) (ha : A) (he : E) : (p < 0 → A) ∧ (¬ p < 0 → ((p ≤ 5 → B) ∧ (¬ p ≤ 5 → E))) :=
  hb.elim (fun g => br_t g ha) (fun g => br_f (rg_5 g).1 (br_f (rg_5 g).2 he))
theorem yb_bad {post : Int32 → Prop} {p : Int32} (hb : p < 0 ∨ nI 6 ≤ p) (h : post 1) : wpY_badRel post ((nI n), (nI L), tab, asm, rl, fi, se, th) p := rg_bad hb h h
theorem yt_193 {post : Int32 → Prop} {J : Int32 → Int32 → Prop} {r a b c d f k s : Nat} {x2 : Int32} (C : rx_C n L tab mk us rl fi se th asm T R X Y Z AS) (hr : r < 6) (ha : a < 2) (hb : b < 2) (hc : c < 2) (hd : d < 2) (hf : f < 2) (hs : s < 8)
    (h : J (nI (yt_lw a b c d (cond ((T r).testBit (7 - s)) f 1))) (nI (k + 1))) : wY_traits_193 post J (nI r) x2 (nI (yt_lw a b c d f)) (nI k) (nI s) (nI n) (nI L) tab asm rl fi se th := by
  unfold wY_traits_193
  rw [show (7 : Int32) - nI s = nI (7 - s) from pk_sub (a := 7) (by omega)]
  refine yv_mem C hr (by omega) (rt_if (fun hp => nm_r (nI_1 k) ?_) (fun hp => nm_r (e' := nI (yt_lw a b c d 1)) ?_ (nm_r (nI_1 k) ?_)))
  · rw [hp] at h; exact h
  · rw [show nI (yt_lw a b c d f) ||| 64 = nI (yt_lw a b c d f ||| 64) from rb_or _ 64, (yt_or a ha b hb c hc d hd f hf).2.2.2.2]
  · rw [Bool.not_eq_true] at hp
    rw [hp] at h; exact h
theorem yt_172 {post : Int32 → Prop} {J : Int32 → Int32 → Prop} {r a b c d f k s t u : Nat} {x2 : Int32} (C : rx_C n L tab mk us rl fi se th asm T R X Y Z AS) (hr : r < 6) (ha : a < 2) (hb : b < 2) (hc : c < 2) (hd : d < 2) (hf : f < 2) (hs : s < 8) (ht : t < 8) (hu : u < 8)
    (h : J (nI (yt_lw a b c (cond ((T r).testBit ((s ^^^ t) ^^^ u)) d 1) (cond ((T r).testBit (7 - s)) f 1))) (nI (k + 1))) : wY_traits_172 post J (nI r) x2 (nI (yt_lw a b c d f)) (nI k) (nI s) (nI t) (nI u) (nI n) (nI L) tab asm rl fi se th := by
  have l : (s ^^^ t) ^^^ u < 8 := Nat.xor_lt_two_pow (n := 3) (Nat.xor_lt_two_pow (n := 3) hs ht) hu
  unfold wY_traits_172
  rw [rb_xor, rb_xor]
  refine yv_mem C hr (by omega) (rt_if (fun hp => yt_193 C hr ha hb hc hd hf hs ?_) (fun hp => nm_r (e' := nI (yt_lw a b c 1 f)) ?_ (yt_193 C hr ha hb hc (by decide) hf hs ?_)))
  · rw [hp] at h; exact h
  · rw [show nI (yt_lw a b c d f) ||| 32 = nI (yt_lw a b c d f ||| 32) from rb_or _ 32, (yt_or a ha b hb c hc d hd f hf).2.2.2.1]
  · rw [Bool.not_eq_true] at hp
    rw [hp] at h; exact h
theorem yt_142 {post : Int32 → Prop} {J : Int32 → Int32 → Prop} {r a b c d f k s t u : Nat} {x2 : Int32} (C : rx_C n L tab mk us rl fi se th asm T R X Y Z AS) (hr : r < 6) (ha : a < 2) (hb : b < 2) (hc : c < 2) (hd : d < 2) (hf : f < 2) (hs : s < 8) (ht : t < 8) (hu : u < 8)
    (h : J (nI (yt_lw a b (cond ((T r).testBit (rt_mj s t u)) c 1) (cond ((T r).testBit ((s ^^^ t) ^^^ u)) d 1) (cond ((T r).testBit (7 - s)) f 1))) (nI (k + 1))) : wY_traits_142 post J (nI r) x2 (nI (yt_lw a b c d f)) (nI k) (nI s) (nI t) (nI u) (nI n) (nI L) tab asm rl fi se th := by
  have l := xt_mjl (u := u) hs ht
  unfold wY_traits_142
  rw [xt_mj]
  refine yv_mem C hr (by omega) (rt_if (fun hp => yt_172 C hr ha hb hc hd hf hs ht hu ?_) (fun hp => nm_r (e' := nI (yt_lw a b 1 d f)) ?_ (yt_172 C hr ha hb (by decide) hd hf hs ht hu ?_)))
  · rw [hp] at h; exact h
  · rw [show nI (yt_lw a b c d f) ||| 16 = nI (yt_lw a b c d f ||| 16) from rb_or _ 16, (yt_or a ha b hb c hc d hd f hf).2.2.1]
  · rw [Bool.not_eq_true] at hp
    rw [hp] at h; exact h
theorem yt_124 {post : Int32 → Prop} {J : Int32 → Int32 → Prop} {r a b c d f k s t u : Nat} {x2 : Int32} (C : rx_C n L tab mk us rl fi se th asm T R X Y Z AS) (hr : r < 6) (ha : a < 2) (hb : b < 2) (hc : c < 2) (hd : d < 2) (hf : f < 2) (hs : s < 8) (ht : t < 8) (hu : u < 8)
    (h : J (nI (yt_lw a (cond ((T r).testBit (s ||| t)) b 1) (cond ((T r).testBit (rt_mj s t u)) c 1) (cond ((T r).testBit ((s ^^^ t) ^^^ u)) d 1) (cond ((T r).testBit (7 - s)) f 1))) (nI (k + 1))) : wY_traits_124 post J (nI r) x2 (nI (yt_lw a b c d f)) (nI k) (nI s) (nI t) (nI u) (nI n) (nI L) tab asm rl fi se th := by
  have l : s ||| t < 8 := Nat.or_lt_two_pow (n := 3) hs ht
  unfold wY_traits_124
  rw [rb_or]
  refine yv_mem C hr (by omega) (rt_if (fun hp => yt_142 C hr ha hb hc hd hf hs ht hu ?_) (fun hp => nm_r (e' := nI (yt_lw a 1 c d f)) ?_ (yt_142 C hr ha (by decide) hc hd hf hs ht hu ?_)))
  · rw [hp] at h; exact h
  · rw [show nI (yt_lw a b c d f) ||| 8 = nI (yt_lw a b c d f ||| 8) from rb_or _ 8, (yt_or a ha b hb c hc d hd f hf).2.1]
  · rw [Bool.not_eq_true] at hp
    rw [hp] at h; exact h
noncomputable def yt_L (T k : Nat) : Nat := yt_lw (rc_b (¬ rt_A (yt_cA T) k)) (rc_b (¬ rt_A (yt_cB T) k)) (rc_b (¬ rt_A (yt_cC T) k)) (rc_b (¬ rt_A (yt_cD T) k)) (rc_b (¬ rt_A (yt_cF T) k))
theorem yt_loop {post : Int32 → Prop} {r x : Nat} (C : rx_C n L tab mk us rl fi se th asm T R X Y Z AS) (hr : r < 6) (hx : 124 ≤ x) (hx' : x < 128) (h : post (nI (x - yt_L (T r) 512))) : ∃ q, wY_traits_43 post (nI r) (nI x) (nI n) (nI L) tab asm rl fi se th q 0 0 := by
  have hT := rx_T C hr
  generalize hU : T r = U at h hT
  have L0 : yt_L U 0 = 0 := by
    unfold yt_L
    rw [rc_f (fun g => g (rt_A0 _)), rc_f (fun g => g (rt_A0 _)), rc_f (fun g => g (rt_A0 _)), rc_f (fun g => g (rt_A0 _)), rc_f (fun g => g (rt_A0 _))]
    rfl
  refine loop_0 (fun q k (s : Int32) => wY_traits_43 post (nI r) (nI x) (nI n) (nI L) tab asm rl fi se th q s (nI k)) (fun k s => s = nI (yt_L U k)) 512 0 (by rw [L0]; rfl) ?_ ?_
  · rintro q s rfl
    have l : yt_L U 512 ≤ 124 := by
      unfold yt_L yt_lw
      have h1 := rt_b2 (¬ rt_A (yt_cA U) 512)
      have h2 := rt_b2 (¬ rt_A (yt_cB U) 512)
      have h3 := rt_b2 (¬ rt_A (yt_cC U) 512)
      have h4 := rt_b2 (¬ rt_A (yt_cD U) 512)
      have h5 := rt_b2 (¬ rt_A (yt_cF U) 512)
      omega
    refine br_t (by decide) ?_
    rw [pk_sub (by omega)]; exact h
  · rintro q k s hk rfl K
    have K1 : wY_traits_43 post (nI r) (nI x) (nI n) (nI L) tab asm rl fi se th q (nI (yt_L U (k + 1))) (nI (k + 1)) := K _ rfl
    obtain ⟨b1, b2, b3, b4⟩ := rt_k3b k hk
    have e6 : (nI k >>> ((3 : Int32) &&& 31)) &&& (7 : Int32) = nI ((k >>> 3) &&& 7) := by
      rw [show nI k >>> ((3 : Int32) &&& 31) = nI (k >>> 3) from rb_shr (k := 3) (by omega) (by decide)]
      exact rb_and _ 7
    have e7 : (nI k >>> ((6 : Int32) &&& 31)) &&& (7 : Int32) = nI (k >>> 6) := by
      rw [show nI k >>> ((6 : Int32) &&& 31) = nI (k >>> 6) from rb_shr (k := 6) (by omega) (by decide), ← b4]
      rw [b4]
      exact (rb_and _ 7).trans (congrArg nI b4)
    have same : ¬ (U.testBit (k >>> 6) = true ∧ U.testBit ((k >>> 3) &&& 7) = true ∧ U.testBit (k &&& 7) = true) → wY_traits_43 post (nI r) (nI x) (nI n) (nI L) tab asm rl fi se th q (nI (yt_L U k)) (nI (k + 1)) := by
      intro g
      have v : ∀ P, rt_c3 P U k := fun P a b c => absurd ⟨a, b, c⟩ g
      unfold yt_L at K1 ⊢
      rw [propext (rt_Au (P := yt_cA U) (v _)), propext (rt_Au (P := yt_cB U) (v _)), propext (rt_Au (P := yt_cC U) (v _)), propext (rt_Au (P := yt_cD U) (v _)), propext (rt_Au (P := yt_cF U) (v _))] at K1
      exact K1
    refine br_f (nI_ge (b := 512) hk (by decide)) (nm_r (rb_and k 7) (nm_r e6 (nm_r e7 ?_)))
    refine yv_mem C hr (by omega) (rt_if (fun hs => ?_) (fun hs => nm_r (nI_1 k) (same (fun g => hs (by rw [hU]; exact g.2.2)))))
    refine yv_mem C hr (by omega) (rt_if (fun ht => ?_) (fun ht => nm_r (nI_1 k) (same (fun g => ht (by rw [hU]; exact g.2.1)))))
    refine yv_mem C hr (by omega) (rt_if (fun hu => ?_) (fun hu => nm_r (nI_1 k) (same (fun g => hu (by rw [hU]; exact g.1)))))
    rw [hU] at hs ht hu
    have c3 : ∀ P, rt_c3 P U k ↔ P (k >>> 6) ((k >>> 3) &&& 7) (k &&& 7) := fun P => ⟨fun g => g hu ht hs, fun g _ _ _ => g⟩
    have l : (k &&& 7) &&& ((k >>> 3) &&& 7) < 8 := Nat.lt_of_le_of_lt Nat.and_le_left b3
    have q1 := rt_b2 (¬ rt_A (yt_cA U) k)
    have q2 := rt_b2 (¬ rt_A (yt_cB U) k)
    have q3 := rt_b2 (¬ rt_A (yt_cC U) k)
    have q4 := rt_b2 (¬ rt_A (yt_cD U) k)
    have q5 := rt_b2 (¬ rt_A (yt_cF U) k)
    have fin : wY_traits_43 post (nI r) (nI x) (nI n) (nI L) tab asm rl fi se th q (nI (yt_lw (cond (U.testBit ((k &&& 7) &&& ((k >>> 3) &&& 7))) (rc_b (¬ rt_A (yt_cA U) k)) 1) (cond (U.testBit ((k &&& 7) ||| ((k >>> 3) &&& 7))) (rc_b (¬ rt_A (yt_cB U) k)) 1)
        (cond (U.testBit (rt_mj (k &&& 7) ((k >>> 3) &&& 7) (k >>> 6))) (rc_b (¬ rt_A (yt_cC U) k)) 1) (cond (U.testBit (((k &&& 7) ^^^ ((k >>> 3) &&& 7)) ^^^ (k >>> 6))) (rc_b (¬ rt_A (yt_cD U) k)) 1) (cond (U.testBit (7 - (k &&& 7))) (rc_b (¬ rt_A (yt_cF U) k)) 1))) (nI (k + 1)) := by
      rw [yt_up (P := yt_cA U) (c3 (fun _ t s => U.testBit (s &&& t) = true)).symm, yt_up (P := yt_cB U) (c3 (fun _ t s => U.testBit (s ||| t) = true)).symm, yt_up (P := yt_cC U) (c3 (fun u t s => U.testBit (rt_mj s t u) = true)).symm, yt_up (P := yt_cD U) (c3 (fun u t s => U.testBit ((s ^^^ t) ^^^ u) = true)).symm, yt_up (P := yt_cF U) (c3 (fun _ _ s => U.testBit (7 - s) = true)).symm]
      exact K1
    rw [rb_and]
    unfold yt_L
    rw [← hU] at fin q1 q2 q3 q4 q5 ⊢
    refine yv_mem C hr (by omega) (rt_if (fun hp => yt_124 C hr q1 q2 q3 q4 q5 b3 b2 b1 ?_) (fun hp => nm_r (e' := nI (yt_lw 1 (rc_b (¬ rt_A (yt_cB (T r)) k)) (rc_b (¬ rt_A (yt_cC (T r)) k)) (rc_b (¬ rt_A (yt_cD (T r)) k)) (rc_b (¬ rt_A (yt_cF (T r)) k)))) ?_ (yt_124 C hr (by decide) q2 q3 q4 q5 b3 b2 b1 ?_)))
    · rw [hp] at fin; exact fin
    · rw [show ∀ z : Nat, nI z ||| 4 = nI (z ||| 4) from fun z => rb_or z 4, (yt_or _ q1 _ q2 _ q3 _ q4 _ q5).1]
    · rw [Bool.not_eq_true] at hp
      rw [hp] at fin; exact fin
theorem yt_traits {post : Int32 → Prop} {r : Nat} (C : rx_C n L tab mk us rl fi se th asm T R X Y Z AS) (hr : r < 6) (h : post (nI (rt_tv (T r)))) : wpY_traits post ((nI n), (nI L), tab, asm, rl, fi, se, th) (nI r) := by
  have key : ∀ a b : Bool, (T r).testBit 0 = a → (T r).testBit 7 = b → 124 + a.toNat + 2 * b.toNat - yt_L (T r) 512 = rt_tv (T r) := by
    intro a b ha hb
    have h1 := rt_b2 (rt_MC (T r))
    have h2 := rt_b2 (rt_JC (T r))
    have h3 := rt_b2 (rt_OC (T r))
    have h4 := rt_b2 (ra_PC (T r))
    have h5 := rt_b2 (rt_FC (T r))
    unfold yt_L yt_lw rt_tv
    rw [rt_bn, rt_bn, rt_bn, rt_bn, rt_bn, propext (yt_iA _), propext (yt_iB _), propext (yt_iC _), propext (yt_iD _), propext (yt_iF _), ha, hb]
    omega
  have k25 : ∀ a : Bool, (T r).testBit 0 = a → wY_traits_25 post (nI r) (nI (126 + a.toNat)) (nI n) (nI L) tab asm rl fi se th := by
    intro a ha
    have la := rb_lt a
    refine yv_mem C hr (t := 7) (by decide) (rt_if (fun hp => yt_loop C hr (by omega) (by omega) ?_) (fun hp => nm_r (e' := nI (124 + a.toNat)) ?_ (yt_loop C hr (by omega) (by omega) ?_)))
    · have := key a true ha hp
      rw [show 126 + a.toNat = 124 + a.toNat + 2 * true.toNat from by simp; omega, this]; exact h
    · rw [show 126 + a.toNat = (124 + a.toNat) + 2 by omega]; exact yt_m2 _
    · rw [Bool.not_eq_true] at hp
      have := key a false ha hp
      rw [show 124 + a.toNat = 124 + a.toNat + 2 * false.toNat from rfl, this]; exact h
  simp only [wpY_traits]
  refine yb_ok hr (br_t rfl (yv_mem C hr (t := 0) (by decide) (rt_if (fun hp => k25 true hp) (fun hp => nm_r (e' := nI (126 + false.toNat)) (by decide) (k25 false ?_)))))
  rw [Bool.not_eq_true] at hp; exact hp
theorem yt_net {post : Int32 → Prop} (C : rx_C n L tab mk us rl fi se th asm T R X Y Z AS) (h : ∀ N, rx_Nt L T R N → post (nI N)) : wpY_netTraits post ((nI n), (nI L), tab, asm, rl, fi, se, th) := by
  have hn := C.1
  show ∃ q, wY_netTraits_5 post (nI n) (nI L) tab asm rl fi se th q 127 0
  refine loop_0 (fun q c (s : Int32) => wY_netTraits_5 post (nI n) (nI L) tab asm rl fi se th q s (nI c)) (fun c s => ∃ a : Nat, s = nI a ∧ ∀ j, a.testBit j = true ↔ ((127 : Nat).testBit j = true ∧ ∀ c', c' < c → (rt_tv (T (R c'))).testBit j = true)) L 127
    ⟨127, rfl, fun j => ⟨fun q => ⟨q, fun p hp => absurd hp (by omega)⟩, fun q => q.1⟩⟩ ?_ ?_
  · rintro q s ⟨a, rfl, ha⟩
    exact br_t (nI_le (Nat.le_refl L) (by omega)) (h a ha)
  · rintro q c s hc ⟨a, rfl, ha⟩ K
    refine br_f (nI_ge hc (by omega)) (br_f (nI_ge (b := 20) (by omega) (by decide)) (And.intro (vp_in_nI (by omega) (by decide)) ?_))
    rw [rx_rl C hc]
    refine yt_traits C (rx_R C hc) (nm_r (rb_and _ _) (nm_r (nI_1 c) (K _ ⟨_, rfl, fun j => ?_⟩)))
    rw [Nat.testBit_and, Bool.and_eq_true, ha j]
    constructor
    · rintro ⟨⟨x1, x2⟩, x3⟩
      refine ⟨x1, fun c' hc' => ?_⟩
      by_cases e : c' = c
      · rw [e]; exact x3
      · exact x2 c' (by omega)
    · rintro ⟨x1, x2⟩
      exact ⟨⟨x1, fun c' hc' => x2 c' (by omega)⟩, x2 c (by omega)⟩
theorem rx_nt_eq {N N' : Nat} (h : rx_Nt L T R N) (h' : rx_Nt L T R N') : N' = N := by
  refine Nat.eq_of_testBit_eq (fun j => ?_)
  have a := h j
  have b := h' j
  rw [← a] at b
  cases hb : N.testBit j
  · cases hb' : N'.testBit j
    · rfl
    · rw [b.mp hb'] at hb; exact absurd hb (by decide)
  · exact b.mpr hb
end
end
section
/-! define, require, retract, assume: both sides, and what they make of the context -/
def zc_cnt (p : Nat) : Nat := rb_fo (fun t a => a + (p.testBit t).toNat) 0 8
def rv_sh (a : Nat → Int32) (i k : Nat) : Nat → Int32 := fun j => if i ≤ j ∧ j < k then a (j + 1) else a j
def rv_nn (a : Nat → Nat) (i k : Nat) : Nat → Nat := fun j => if i ≤ j ∧ j < k then a (j + 1) else a j
theorem rv_0 (a : Nat → Int32) (i : Nat) : rv_sh a i i = a := by
  funext j
  unfold rv_sh
  rw [if_neg (by omega)]
theorem rv_s {a : Nat → Int32} {i k : Nat} (h : i ≤ k) : upd (rv_sh a i k) k (rv_sh a i k (k + 1)) = rv_sh a i (k + 1) := by
  funext j
  by_cases e : j = k
  · rw [e, pk_us]
    unfold rv_sh
    rw [if_neg (by omega), if_pos ⟨h, by omega⟩]
  · rw [pk_un e]
    unfold rv_sh
    by_cases g : i ≤ j ∧ j < k
    · rw [if_pos g, if_pos ⟨g.1, by omega⟩]
    · rw [if_neg g, if_neg (by omega)]
theorem rv_nI {a : Nat → Int32} {b : Nat → Nat} {i L j : Nat} {B : Nat} (hj : j < L - 1) (h : ∀ c, c < L → b c < B ∧ a c = nI (b c)) : rv_nn b i (L - 1) j < B ∧ rv_sh a i (L - 1) j = nI (rv_nn b i (L - 1) j) := by
  unfold rv_nn rv_sh
  by_cases g : i ≤ j ∧ j < L - 1
  · rw [if_pos g, if_pos g]; exact h (j + 1) (by omega)
  · rw [if_neg g, if_neg g]; exact h j (by omega)
theorem rv_cn {R : Nat → Nat} {i L r : Nat} (hi : i < L) : rc_cn (fun c => rv_nn R i (L - 1) c = r) (L - 1) + rc_b (R i = r) = rc_cn (fun c => R c = r) L := by
  have e1 : rc_cn (fun c => R c = r) L = rc_cn (fun c => R c = r) (i + 1) + rc_cn (fun j => R (i + 1 + j) = r) (L - 1 - i) := by
    have := rc_cn_add (fun c => R c = r) (i + 1) (L - 1 - i)
    rw [show i + 1 + (L - 1 - i) = L by omega] at this
    exact this
  have e2 : rc_cn (fun c => rv_nn R i (L - 1) c = r) (L - 1) = rc_cn (fun c => rv_nn R i (L - 1) c = r) i + rc_cn (fun j => rv_nn R i (L - 1) (i + j) = r) (L - 1 - i) := by
    have := rc_cn_add (fun c => rv_nn R i (L - 1) c = r) i (L - 1 - i)
    rw [show i + (L - 1 - i) = L - 1 by omega] at this
    exact this
  have e3 : rc_cn (fun c => rv_nn R i (L - 1) c = r) i = rc_cn (fun c => R c = r) i := rc_cn_c i (fun j hj => by
    unfold rv_nn
    rw [if_neg (by omega)])
  have e4 : rc_cn (fun j => rv_nn R i (L - 1) (i + j) = r) (L - 1 - i) = rc_cn (fun j => R (i + 1 + j) = r) (L - 1 - i) := rc_cn_c _ (fun j hj => by
    unfold rv_nn
    rw [if_pos (by omega), show i + j + 1 = i + 1 + j by omega])
  have e5 : rc_cn (fun c => R c = r) (i + 1) = rc_cn (fun c => R c = r) i + rc_b (R i = r) := rfl
  omega
theorem rg_hi {N : Nat} {p M : Int32} (hM : M = nI N) (hN : N + 1 < 2 ^ 31) (h : nI (N + 1) ≤ p) : ¬ p < 0 ∧ ¬ p ≤ M := by
  subst hM
  have h0 : (0 : Int32) ≤ p := Int32.le_trans (nI_pos' hN) h
  exact ⟨Int32.not_lt.mpr h0, fun g => nI_ge (a := N) (by omega) hN (Int32.le_trans h g)⟩
section
variable {n L : Nat} {sk cl fd : Int32} {tab mk us rl fi se th asm dom sv tr tu fo ro : Nat → Int32} {T R X Y Z AS D : Nat → Nat}
theorem xi_ok {post : Int32 → Prop} {j : Nat} (h8 : n ≤ 8) (hj : j < n) (h : post 1) : wpX_isVar post ((nI n), (nI L), sk, cl, fd, tab, mk, us, rl, fi, se, th, asm, dom, sv, tr, tu, fo, ro) (nI j) :=
  br_f (nI_pos (by omega)) (br_f (nI_ge hj (by omega)) h)
theorem xi_bad {post : Int32 → Prop} {p : Int32} (hb : p < 0 ∨ nI n ≤ p) (h : post 0) : wpX_isVar post ((nI n), (nI L), sk, cl, fd, tab, mk, us, rl, fi, se, th, asm, dom, sv, tr, tu, fo, ro) p := by
  by_cases g : p < 0
  · exact br_t g h
  · exact br_f g (br_t (hb.resolve_left g) h)
theorem yi_ok {post : Int32 → Prop} {j : Nat} (h8 : n ≤ 8) (hj : j < n) (h : post 0) : wpY_badVar post ((nI n), (nI L), tab, asm, rl, fi, se, th) (nI j) :=
  br_f (nI_pos (by omega)) (br_f (nI_ge hj (by omega)) (br_t (nI_lt (b := 8) (by omega) (by decide)) h))
theorem yi_bad {post : Int32 → Prop} {p : Int32} (hb : p < 0 ∨ nI n ≤ p) (h : post 1) : wpY_badVar post ((nI n), (nI L), tab, asm, rl, fi, se, th) p := by
  by_cases g : p < 0
  · exact br_t g h
  · exact br_f g (br_t (hb.resolve_left g) h)
theorem yp_ok {post : Int32 → Prop} {j : Nat} (h20 : L ≤ 20) (hj : j < L) (h : post 0) : wpY_badPos post ((nI n), (nI L), tab, asm, rl, fi, se, th) (nI j) :=
  br_f (nI_pos (by omega)) (br_f (nI_ge hj (by omega)) (br_t (nI_lt (b := 20) (by omega) (by decide)) h))
theorem yp_bad {post : Int32 → Prop} {p : Int32} (hb : p < 0 ∨ nI L ≤ p) (h : post 1) : wpY_badPos post ((nI n), (nI L), tab, asm, rl, fi, se, th) p := by
  by_cases g : p < 0
  · exact br_t g h
  · exact br_f g (br_t (hb.resolve_left g) h)
/-! define -/
theorem zc_def {r p : Nat} (C : rx_C n L tab mk us rl fi se th asm T R X Y Z AS) (hp : p < 256) : rx_C n L (upd tab r (nI p)) (upd mk r (nI (rt_tv p))) us rl fi se th asm (rx_up T r p) R X Y Z AS := by
  refine ⟨C.1, fun r' hr' => ?_, C.2.2.1, C.2.2.2⟩
  obtain ⟨a, b, c, d⟩ := C.2.1 r' hr'
  by_cases e : r' = r
  · rw [e, rx_up_s, pk_us, pk_us]
    rw [e] at d
    exact ⟨hp, rfl, rfl, d⟩
  · rw [rx_up_n e, pk_un e, pk_un e]; exact ⟨a, b, c, d⟩
theorem xg_define {post : Int32 → SX → Prop} {r p : Nat} (C : rx_C n L tab mk us rl fi se th asm T R X Y Z AS) (hr : r < 6) (hp : p < 256) (h3 : (∃ c, c < L ∧ R c = r) → post (-3) ((nI n), (nI L), sk, cl, fd, tab, mk, us, rl, fi, se, th, asm, dom, sv, tr, tu, fo, ro))
    (h : (∀ c, c < L → R c ≠ r) → post (nI (zc_cnt p)) ((nI n), (nI L), sk, cl, fd, (upd tab r (nI p)), (upd mk r (nI (rt_tv p))), us, rl, fi, se, th, asm, dom, sv, tr, tu, fo, ro)) : wpX_define post ((nI n), (nI L), sk, cl, fd, tab, mk, us, rl, fi, se, th, asm, dom, sv, tr, tu, fo, ro) (nI r) (nI p) := by
  have hL := C.1
  have vr : vp_in (nI r) 6 := vp_in_nI hr (by decide)
  have hcl := rc_cn_le (fun c => R c = r) L
  refine br_f (nI_pos (by omega)) (br_t (nI_le (b := 5) (by omega) (by decide)) (br_f (nI_pos (by omega)) (br_t (nI_le (b := 255) (by omega) (by decide)) (And.intro vr ?_))))
  rw [rx_us C hr]
  refine pk_le (rc_cn (fun c => R c = r) L) 0 (fun hz => And.intro vr (nm_r (e' := upd tab r (nI p)) (by rw [nI_clamp (by omega)]) (xt_traits hp (And.intro vr (nm_r (e' := upd mk r (nI (rt_tv p))) (by rw [nI_clamp (by omega)]) ?_))))) (fun hz => h3 ?_)
  · refine loop_0 (fun q t (s : Int32) => wX_define_59 post (nI p) (nI n) (nI L) sk cl fd (upd tab r (nI p)) (upd mk r (nI (rt_tv p))) us rl fi se th asm dom sv tr tu fo ro q s (nI t)) (fun t s => s = nI (rb_fo (fun t a => a + (p.testBit t).toNat) 0 t)) 8 0 rfl ?_ ?_
    · rintro q s rfl
      exact br_t (by decide) (h ((rc_cn_z L).mp (by omega)))
    · rintro q t s ht rfl K
      refine br_f (nI_ge (b := 8) ht (by decide)) ?_
      rw [rb_bit (by omega) (by omega), nI_add]
      exact nm_e (nm_r (nI_1 t) (K _ rfl))
  · exact Classical.byContradiction fun q => by
      have := (rc_cn_z (P := fun c => R c = r) L).mpr (fun c hc e => q ⟨c, hc, e⟩)
      omega
theorem yg_define {post : Int32 → SY → Prop} {r p : Nat} (C : rx_C n L tab mk us rl fi se th asm T R X Y Z AS) (hr : r < 6) (hp : p < 256) (h3 : (∃ c, c < L ∧ R c = r) → post (-3) ((nI n), (nI L), tab, asm, rl, fi, se, th))
    (h : (∀ c, c < L → R c ≠ r) → post (nI (zc_cnt p)) ((nI n), (nI L), (upd tab r (nI p)), asm, rl, fi, se, th)) : wpY_define post ((nI n), (nI L), tab, asm, rl, fi, se, th) (nI r) (nI p) := by
  have hL := C.1
  have vr : vp_in (nI r) 6 := vp_in_nI hr (by decide)
  have C' := zc_def (r := r) C hp
  simp only [wpY_define]
  refine yb_ok hr (br_t rfl (br_f (nI_pos (by omega)) (br_t (nI_le (b := 255) (by omega) (by decide)) ?_)))
  refine loop_0 (fun q c (_ : Unit) => wY_define_26 post (nI r) (nI p) (nI n) (nI L) tab asm rl fi se th q (nI c)) (fun c _ => ∀ c', c' < c → R c' ≠ r) L () (fun c hc => absurd hc (by omega)) ?_ ?_
  · intro q _ hs
    refine br_t (nI_le (Nat.le_refl L) (by omega)) (And.intro vr (nm_r (e' := upd tab r (nI p)) (by rw [nI_clamp (by omega)]) ?_))
    refine loop_0 (fun q t (s : Int32) => wY_define_71 post (nI r) (nI n) (nI L) (upd tab r (nI p)) asm rl fi se th q s (nI t)) (fun t s => s = nI (rb_fo (fun t a => a + (p.testBit t).toNat) 0 t)) 8 0 rfl ?_ ?_
    · rintro q s rfl
      exact br_t (by decide) (h hs)
    · rintro q t s ht rfl K
      have K1 : wY_define_71 post (nI r) (nI n) (nI L) (upd tab r (nI p)) asm rl fi se th q (nI (rb_fo (fun t a => a + (p.testBit t).toNat) 0 t + (p.testBit t).toNat)) (nI (t + 1)) := K _ rfl
      refine br_f (nI_ge (b := 8) ht (by decide)) (yv_mem C' hr (by omega) ?_)
      rw [rx_up_s]
      refine rt_if (fun hb => nm_r (nI_1 _) (nm_r (nI_1 t) ?_)) (fun hb => nm_r (nI_1 t) ?_)
      · rw [hb] at K1; exact K1
      · rw [Bool.not_eq_true] at hb
        rw [hb] at K1; exact K1
  · intro q c _ hc hs K
    have hR := rx_R C hc
    refine br_f (nI_ge hc (by omega)) (br_f (nI_ge (b := 20) (by omega) (by decide)) (And.intro (vp_in_nI (by omega) (by decide)) ?_))
    rw [rx_rl C hc]
    refine pk_eq (R c) r (fun he => h3 ⟨c, hc, he⟩) (fun he => nm_r (nI_1 c) (K () (fun c' hc' => ?_)))
    by_cases e : c' = c
    · rw [e]; exact he
    · exact hs c' (by omega)
/-! assume -/
theorem zc_ass {v a : Nat} (C : rx_C n L tab mk us rl fi se th asm T R X Y Z AS) (ha : a < 3) : rx_C n L tab mk us rl fi se th (upd asm v (nI a)) T R X Y Z (rx_up AS v a) := by
  refine ⟨C.1, C.2.1, C.2.2.1, fun w hw => ?_⟩
  by_cases e : w = v
  · rw [e, rx_up_s, pk_us]; exact ⟨ha, rfl⟩
  · rw [rx_up_n e, pk_un e]; exact C.2.2.2 w hw
/-! require -/
theorem zc_req {r x y z : Nat} (C : rx_C n L tab mk us rl fi se th asm T R X Y Z AS) (hL : L < 20) (hr : r < 6) (hx : x < n) (hy : y < n) (hz : z < n) :
    rx_C n (L + 1) tab mk (upd us r (us r + 1)) (upd rl L (nI r)) (upd fi L (nI x)) (upd se L (nI y)) (upd th L (nI z)) asm T (rx_up R L r) (rx_up X L x) (rx_up Y L y) (rx_up Z L z) AS := by
  have hn := C.1
  refine ⟨⟨hn.1, hn.2.1, hL⟩, fun r' hr' => ?_, fun c hc => ?_, C.2.2.2⟩
  · obtain ⟨a, b, c, d⟩ := C.2.1 r' hr'
    have e0 : rc_cn (fun c => rx_up R L r c = r') (L + 1) = rc_cn (fun c => R c = r') L + rc_b (r = r') := by
      show rc_cn (fun c => rx_up R L r c = r') L + rc_b (rx_up R L r L = r') = _
      rw [rx_up_s, rc_cn_c (Q := fun c => R c = r') L (fun c hc => by rw [rx_up_n (by omega)])]
    refine ⟨a, b, c, ?_⟩
    rw [e0]
    by_cases e : r' = r
    · subst e
      rw [pk_us, d, rc_t rfl]; exact nI_1 _
    · rw [pk_un e, d, rc_f (fun g => e g.symm), Nat.add_zero]
  · by_cases e : c = L
    · subst e
      rw [rx_up_s, rx_up_s, rx_up_s, rx_up_s, pk_us, pk_us, pk_us, pk_us]
      exact ⟨⟨hr, rfl⟩, ⟨hx, rfl⟩, ⟨hy, rfl⟩, ⟨hz, rfl⟩⟩
    · rw [rx_up_n e, rx_up_n e, rx_up_n e, rx_up_n e, pk_un e, pk_un e, pk_un e, pk_un e]
      exact C.2.2.1 c (by omega)
/-! retract -/
theorem zc_ret {i : Nat} (C : rx_C n L tab mk us rl fi se th asm T R X Y Z AS) (hi : i < L) :
    rx_C n (L - 1) tab mk (upd us (R i) (us (R i) - 1)) (rv_sh rl i (L - 1)) (rv_sh fi i (L - 1)) (rv_sh se i (L - 1)) (rv_sh th i (L - 1)) asm T (rv_nn R i (L - 1)) (rv_nn X i (L - 1)) (rv_nn Y i (L - 1)) (rv_nn Z i (L - 1)) AS := by
  have hn := C.1
  refine ⟨⟨hn.1, hn.2.1, by omega⟩, fun r hr => ?_, fun c hc => ?_, C.2.2.2⟩
  · obtain ⟨a, b, c, d⟩ := C.2.1 r hr
    have e0 := rv_cn (R := R) (r := r) hi
    refine ⟨a, b, c, ?_⟩
    by_cases e : r = R i
    · subst e
      rw [rc_t rfl] at e0
      rw [pk_us, d, ← e0]
      exact nI_pred _
    · rw [rc_f (fun g => e g.symm), Nat.add_zero] at e0
      rw [pk_un e, d, e0]
  · exact ⟨rv_nI hc (fun c h => (C.2.2.1 c h).1), rv_nI hc (fun c h => (C.2.2.1 c h).2.1), rv_nI hc (fun c h => (C.2.2.1 c h).2.2.1), rv_nI hc (fun c h => (C.2.2.1 c h).2.2.2)⟩
theorem xg_ret {post : Int32 → SX → Prop} {i r : Nat} (hr : r < 6) (h20 : L ≤ 20)
    (h : post (nI r) ((nI n), (nI (L - 1)), sk, cl, fd, tab, mk, (upd us r (us r - 1)), (rv_sh rl i (L - 1)), (rv_sh fi i (L - 1)), (rv_sh se i (L - 1)), (rv_sh th i (L - 1)), asm, dom, sv, tr, tu, fo, ro)) :
    ∀ (d q : Nat), d < q → ∀ k, i ≤ k → k + 1 + d = L → wX_retract_25 post (nI r) (nI n) (nI L) sk cl fd q (nI (k + 1)) tab mk us (rv_sh rl i k) (rv_sh fi i k) (rv_sh se i k) (rv_sh th i k) asm dom sv tr tu fo ro := by
  have vr : vp_in (nI r) 6 := vp_in_nI hr (by decide)
  intro d
  induction d with
  | zero =>
    intro q hq k hk hd
    obtain ⟨q, rfl⟩ : ∃ j, q = j + 1 := ⟨q - 1, by omega⟩
    have ek : k = L - 1 := by omega
    have el : k + 1 = L := by omega
    refine br_t (nI_le (by omega) (by omega)) (nm_r (e' := nI (L - 1)) (show nI L - 1 = nI (L - 1) from pk_sub (b := 1) (by omega)) (And.intro vr (And.intro vr (nm_r (e' := upd us r (us r - 1)) (by rw [nI_clamp (by omega)]) ?_))))
    rw [ek]; exact h
  | succ d ih =>
    intro q hq k hk hd
    obtain ⟨q, rfl⟩ : ∃ j, q = j + 1 := ⟨q - 1, by omega⟩
    have v1 : vp_in (nI (k + 1)) 20 := vp_in_nI (by omega) (by decide)
    have v0 : vp_in (nI k) 20 := vp_in_nI (by omega) (by decide)
    have st : ∀ a : Nat → Int32, upd (rv_sh a i k) (nI k).toNatClampNeg (rv_sh a i k (nI (k + 1)).toNatClampNeg) = rv_sh a i (k + 1) := fun a => by
      rw [nI_clamp (by omega), nI_clamp (by omega)]; exact rv_s hk
    refine br_f (nI_ge (by omega) (by omega)) ?_
    rw [nI_pred]
    refine And.intro v1 (And.intro v0 (nm_r (st rl) (And.intro v1 (And.intro v0 (nm_r (st fi) (And.intro v1 (And.intro v0 (nm_r (st se) (And.intro v1 (And.intro v0 (nm_r (st th) (nm_r (nI_1 (k + 1)) (ih q (by omega) (k + 1) (by omega) (by omega))))))))))))))
theorem yg_ret {post : Int32 → SY → Prop} {i r : Nat} (h20 : L ≤ 20)
    (h : post (nI r) ((nI n), (nI (L - 1)), tab, asm, (rv_sh rl i (L - 1)), (rv_sh fi i (L - 1)), (rv_sh se i (L - 1)), (rv_sh th i (L - 1)))) :
    ∀ (d q : Nat), d < q → ∀ k, i ≤ k → k + 1 + d = L → wY_retract_19 post (nI r) (nI n) (nI L) q (nI k) tab asm (rv_sh rl i k) (rv_sh fi i k) (rv_sh se i k) (rv_sh th i k) := by
  intro d
  induction d with
  | zero =>
    intro q hq k hk hd
    obtain ⟨q, rfl⟩ : ∃ j, q = j + 1 := ⟨q - 1, by omega⟩
    have ek : k = L - 1 := by omega
    have e1 : nI L - 1 = nI (L - 1) := pk_sub (b := 1) (by omega)
    refine br_t ?_ (nm_r e1 ?_)
    · rw [e1]; exact nI_le (by omega) (by omega)
    · rw [ek]; exact h
  | succ d ih =>
    intro q hq k hk hd
    obtain ⟨q, rfl⟩ : ∃ j, q = j + 1 := ⟨q - 1, by omega⟩
    have e1 : nI L - 1 = nI (L - 1) := pk_sub (b := 1) (by omega)
    have v1 : vp_in (nI (k + 1)) 20 := vp_in_nI (by omega) (by decide)
    have v0 : vp_in (nI k) 20 := vp_in_nI (by omega) (by decide)
    have st : ∀ a : Nat → Int32, upd (rv_sh a i k) (nI k).toNatClampNeg (rv_sh a i k (nI (k + 1)).toNatClampNeg) = rv_sh a i (k + 1) := fun a => by
      rw [nI_clamp (by omega), nI_clamp (by omega)]; exact rv_s hk
    refine br_f (by rw [e1]; exact nI_ge (by omega) (by omega)) (br_f (nI_ge (b := 19) (by omega) (by decide)) ?_)
    rw [nI_1 k]
    refine And.intro v1 (And.intro v0 (nm_r (st rl) (And.intro v1 (And.intro v0 (nm_r (st fi) (And.intro v1 (And.intro v0 (nm_r (st se) (And.intro v1 (And.intro v0 (nm_r (st th) (nm_e (ih q (by omega) (k + 1) (by omega) (by omega))))))))))))))
end
end
section
/-! the relation, the constructors, the storing methods -/
/-- both sides hold the same tables, constraints and assumptions; what the component keeps besides fits; its working arrays are free -/
def i_Rel (_ : Nat) (u : SX) (v : SY) : Prop :=
  ∃ (n L : Nat) (cl fd : Int32) (tab mk us rl fi se th asm dom sv tr tu fo ro : Nat → Int32) (T R X Y Z AS : Nat → Nat),
    u = ((nI n), (nI L), (-1), cl, fd, tab, mk, us, rl, fi, se, th, asm, dom, sv, tr, tu, fo, ro) ∧ v = ((nI n), (nI L), tab, asm, rl, fi, se, th) ∧ rx_C n L tab mk us rl fi se th asm T R X Y Z AS
theorem i_up {k : Nat} {u : SX} {v : SY} (h : i_Rel k u v) : i_Rel (k + 5) u v := h
theorem zz_el {k : Nat} {u : SX} {v : SY} {P : SX → SY → Prop}
    (h : ∀ (n L : Nat) (cl fd : Int32) (tab mk us rl fi se th asm dom sv tr tu fo ro : Nat → Int32) (T R X Y Z AS : Nat → Nat), rx_C n L tab mk us rl fi se th asm T R X Y Z AS → P ((nI n), (nI L), (-1), cl, fd, tab, mk, us, rl, fi, se, th, asm, dom, sv, tr, tu, fo, ro) ((nI n), (nI L), tab, asm, rl, fi, se, th))
    (I : i_Rel k u v) : P u v :=
  Exists.elim I fun n I => Exists.elim I fun L I => Exists.elim I fun cl I => Exists.elim I fun fd I => Exists.elim I fun tab I => Exists.elim I fun mk I => Exists.elim I fun us I => Exists.elim I fun rl I =>
  Exists.elim I fun fi I => Exists.elim I fun se I => Exists.elim I fun th I => Exists.elim I fun asm I => Exists.elim I fun dom I => Exists.elim I fun sv I => Exists.elim I fun tr I => Exists.elim I fun tu I =>
  Exists.elim I fun fo I => Exists.elim I fun ro I => Exists.elim I fun T I => Exists.elim I fun R I => Exists.elim I fun X I => Exists.elim I fun Y I => Exists.elim I fun Z I => Exists.elim I fun AS I => by
    rw [I.1, I.2.1]
    exact h n L cl fd tab mk us rl fi se th asm dom sv tr tu fo ro T R X Y Z AS I.2.2
section
variable {n L : Nat} {sk cl fd : Int32} {tab mk us rl fi se th asm dom sv tr tu fo ro : Nat → Int32} {T R X Y Z AS D : Nat → Nat}
theorem zz_mk {k : Nat} (C : rx_C n L tab mk us rl fi se th asm T R X Y Z AS) : i_Rel k ((nI n), (nI L), (-1), cl, fd, tab, mk, us, rl, fi, se, th, asm, dom, sv, tr, tu, fo, ro) ((nI n), (nI L), tab, asm, rl, fi, se, th) :=
  ⟨n, L, cl, fd, tab, mk, us, rl, fi, se, th, asm, dom, sv, tr, tu, fo, ro, T, R, X, Y, Z, AS, rfl, rfl, C⟩
end
theorem rgM_bad {A B E : Prop} {N : Nat} {p M : Int32} (hM : M = nI N) (hN : N + 1 < 2 ^ 31) (hb : p < 0 ∨ nI (N + 1) ≤ p) (ha : A) (he : E) : (p < 0 → A) ∧ (¬ p < 0 → ((p ≤ M → B) ∧ (¬ p ≤ M → E))) :=
  hb.elim (fun g => br_t g ha) (fun g => br_f (rg_hi hM hN g).1 (br_f (rg_hi hM hN g).2 he))
theorem rgM_ok {A B E : Prop} {N j : Nat} {M : Int32} (hM : M = nI N) (hN : N < 2 ^ 31) (hj : j ≤ N) (h : B) : (nI j < 0 → A) ∧ (¬ nI j < 0 → ((nI j ≤ M → B) ∧ (¬ nI j ≤ M → E))) := by
  subst hM
  exact br_f (nI_pos (by omega)) (br_t (nI_le hj hN) h)
theorem rg_ix (p : Int32) {N : Nat} (hN : N < 2 ^ 31) : (p < 0 ∨ nI N ≤ p) ∨ ∃ j : Nat, j < N ∧ p = nI j :=
  (pk_ix p hN).elim (fun g => Or.inl (Or.inl g)) (fun g => g.elim (fun g => Or.inl (Or.inr g)) Or.inr)
/-! the constructors -/
def zi_f (c : Int32) (k : Nat) : Nat → Int32 := fun j => if j < k then c else 0
theorem zi_0 (c : Int32) : zi_f c 0 = fun _ => 0 := by
  funext j
  unfold zi_f
  rw [if_neg (by omega)]
theorem zi_s (c : Int32) (k : Nat) : upd (zi_f c k) k c = zi_f c (k + 1) := by
  funext j
  by_cases e : j = k
  · rw [e, pk_us]
    unfold zi_f
    rw [if_pos (by omega)]
  · rw [pk_un e]
    unfold zi_f
    by_cases g : j < k
    · rw [if_pos g, if_pos (by omega)]
    · rw [if_neg g, if_neg (by omega)]
theorem zi_255 : ∀ j, j < 8 → (255 : Nat).testBit j = true := by decide
theorem zi_tv : rt_tv 255 = 127 := by
  have a : ∀ {s t : Nat}, s < 8 → s &&& t < 8 := fun h => Nat.lt_of_le_of_lt Nat.and_le_left h
  have h1 : rt_MC 255 := fun s hs t _ _ _ => zi_255 _ (a hs)
  have h2 : rt_JC 255 := fun s hs t ht _ _ => zi_255 _ (Nat.or_lt_two_pow (n := 3) hs ht)
  have h3 : rt_OC 255 := fun s hs _ t ht _ u _ _ => zi_255 _ (xt_mjl hs ht)
  have h4 : ra_PC 255 := fun s hs _ t ht _ u hu _ => zi_255 _ (Nat.xor_lt_two_pow (n := 3) (Nat.xor_lt_two_pow (n := 3) hs ht) hu)
  have h5 : rt_FC 255 := fun t _ _ => zi_255 _ (by omega)
  unfold rt_tv
  rw [rc_t h1, rc_t h2, rc_t h3, rc_t h4, rc_t h5]
  decide
theorem zi_C {n : Nat} (h2 : 2 ≤ n) (h8 : n ≤ 8) (rl fi se th : Nat → Int32) : rx_C n 0 (zi_f 255 6) (zi_f 127 6) (fun _ => 0) rl fi se th (zi_f 2 8) (fun _ => 255) (fun _ => 0) (fun _ => 0) (fun _ => 0) (fun _ => 0) (fun _ => 2) := by
  refine ⟨⟨h2, h8, by decide⟩, fun r hr => ⟨(by decide : (255 : Nat) < 256), ?_, ?_, rfl⟩, fun c hc => absurd hc (by omega), fun v hv => ⟨(by decide : (2 : Nat) < 3), ?_⟩⟩
  · unfold zi_f; rw [if_pos hr]; rfl
  · unfold zi_f; rw [if_pos hr, zi_tv]; rfl
  · unfold zi_f; rw [if_pos hv]; rfl
theorem zi_x {post : SX → Prop} {n : Int32} (h : post (n, 0, -1, 0, 0, zi_f 255 6, zi_f 127 6, fun _ => 0, fun _ => 0, fun _ => 0, fun _ => 0, fun _ => 0, zi_f 2 8, fun _ => 0, fun _ => 0, fun _ => 0, fun _ => 0, fun _ => 0, fun _ => 0)) :
    ∃ q, wX_init_147 post n 0 0 0 0 q 0 (fun _ => 0) (fun _ => 0) (fun _ => 0) (fun _ => 0) (fun _ => 0) (fun _ => 0) (fun _ => 0) (fun _ => 0) (fun _ => 0) (fun _ => 0) (fun _ => 0) (fun _ => 0) (fun _ => 0) (fun _ => 0) := by
  refine loop_0 (fun q k (s : (Nat → Int32) × (Nat → Int32)) => wX_init_147 post n 0 0 0 0 q (nI k) s.1 s.2 (fun _ => 0) (fun _ => 0) (fun _ => 0) (fun _ => 0) (fun _ => 0) (fun _ => 0) (fun _ => 0) (fun _ => 0) (fun _ => 0) (fun _ => 0) (fun _ => 0) (fun _ => 0))
    (fun k s => s = (zi_f 255 k, zi_f 127 k)) 6 (fun _ => 0, fun _ => 0) (by rw [zi_0, zi_0]) ?_ ?_
  · rintro q s rfl
    refine br_t (by decide) (loop_0 (fun q k (s : Nat → Int32) => wX_init_178 post n 0 0 0 0 q (nI k) (zi_f 255 6) (zi_f 127 6) (fun _ => 0) (fun _ => 0) (fun _ => 0) (fun _ => 0) (fun _ => 0) s (fun _ => 0) (fun _ => 0) (fun _ => 0) (fun _ => 0) (fun _ => 0) (fun _ => 0))
      (fun k s => s = zi_f 2 k) 8 (fun _ => 0) (zi_0 2).symm ?_ ?_)
    · rintro q s rfl
      exact br_t (by decide) h
    · rintro q k s hk rfl K
      exact br_f (nI_ge (b := 8) hk (by decide)) (And.intro (vp_in_nI hk (by decide)) (nm_r (e' := zi_f 2 (k + 1)) (by rw [nI_clamp (by omega)]; exact zi_s 2 k) (nm_r (nI_1 k) (K _ rfl))))
  · rintro q k s hk rfl K
    have vk : vp_in (nI k) 6 := vp_in_nI hk (by decide)
    exact br_f (nI_ge (b := 6) hk (by decide)) (And.intro vk (nm_r (e' := zi_f 255 (k + 1)) (by rw [nI_clamp (by omega)]; exact zi_s 255 k) (And.intro vk (nm_r (e' := zi_f 127 (k + 1)) (by rw [nI_clamp (by omega)]; exact zi_s 127 k) (nm_r (nI_1 k) (K (zi_f 255 (k + 1), zi_f 127 (k + 1)) rfl))))))
theorem zi_y {post : SY → Prop} {n : Int32} (h : post (n, 0, zi_f 255 6, zi_f 2 8, fun _ => 0, fun _ => 0, fun _ => 0, fun _ => 0)) :
    ∃ q, wY_init_79 post n 0 q 0 (fun _ => 0) (fun _ => 0) (fun _ => 0) (fun _ => 0) (fun _ => 0) (fun _ => 0) := by
  refine loop_0 (fun q k (s : Nat → Int32) => wY_init_79 post n 0 q (nI k) s (fun _ => 0) (fun _ => 0) (fun _ => 0) (fun _ => 0) (fun _ => 0)) (fun k s => s = zi_f 255 k) 6 (fun _ => 0) (zi_0 255).symm ?_ ?_
  · rintro q s rfl
    refine br_t (by decide) (loop_0 (fun q k (s : Nat → Int32) => wY_init_102 post n 0 q (nI k) (zi_f 255 6) s (fun _ => 0) (fun _ => 0) (fun _ => 0) (fun _ => 0)) (fun k s => s = zi_f 2 k) 8 (fun _ => 0) (zi_0 2).symm ?_ ?_)
    · rintro q s rfl
      exact br_t (by decide) h
    · rintro q k s hk rfl K
      exact br_f (nI_ge (b := 8) hk (by decide)) (And.intro (vp_in_nI hk (by decide)) (nm_r (e' := zi_f 2 (k + 1)) (by rw [nI_clamp (by omega)]; exact zi_s 2 k) (nm_r (nI_1 k) (K _ rfl))))
  · rintro q k s hk rfl K
    exact br_f (nI_ge (b := 6) hk (by decide)) (And.intro (vp_in_nI hk (by decide)) (nm_r (e' := zi_f 255 (k + 1)) (by rw [nI_clamp (by omega)]; exact zi_s 255 k) (nm_r (nI_1 k) (K _ rfl))))
theorem zi_R {n : Nat} (h2 : 2 ≤ n) (h8 : n ≤ 8) : i_Rel 1 (nI n, 0, -1, 0, 0, zi_f 255 6, zi_f 127 6, fun _ => 0, fun _ => 0, fun _ => 0, fun _ => 0, fun _ => 0, zi_f 2 8, fun _ => 0, fun _ => 0, fun _ => 0, fun _ => 0, fun _ => 0, fun _ => 0) (nI n, 0, zi_f 255 6, zi_f 2 8, fun _ => 0, fun _ => 0, fun _ => 0, fun _ => 0) :=
  zz_mk (L := 0) (zi_C h2 h8 _ _ _ _)
theorem i_vc0 (k0 : Int32) : wpX_init (fun u => wpY_init (fun v => i_Rel 1 u v) k0) k0 := by
  by_cases h2 : 2 ≤ k0
  · by_cases h8 : k0 ≤ 8
    · have h0 : ¬ k0 < 0 := fun g => absurd (Int32.lt_of_le_of_lt h2 g) (by decide)
      obtain ⟨n, hn, rfl⟩ := nI_of h0
      have a : 2 ≤ n := (nI_leI (a := 2) (by decide) hn).mp h2
      have b : n ≤ 8 := (nI_leI (b := 8) hn (by decide)).mp h8
      exact br_t h2 (br_t h8 (zi_x (br_t h2 (br_t h8 (zi_y (zi_R a b))))))
    · exact br_t h2 (br_f h8 (zi_x (br_t h2 (br_f h8 (zi_y (zi_R (n := 8) (by decide) (by decide)))))))
  · exact br_f h2 (br_t (by decide) (zi_x (br_f h2 (zi_y (zi_R (n := 2) (by decide) (by decide))))))
/-! the storing methods -/
theorem i_vc_define {k : Nat} {u : SX} {v : SY} (I : i_Rel k u v) (hk : k + 5 ≤ 2561) (v1 : Int32) (v2 : Int32) : wpX_define (fun r u' => wpY_define (fun r' v' => r' = r ∧ i_Rel (k + 5) u' v') v v1 v2) u v1 v2 := by
  refine zz_el (P := fun u v => wpX_define (fun r u' => wpY_define (fun r' v' => r' = r ∧ i_Rel (k + 5) u' v') v v1 v2) u v1 v2) ?_ I
  intro n L cl fd tab mk us rl fi se th asm dom sv tr tu fo ro T R X Y Z AS C
  rcases rg_ix v1 (N := 6) (by decide) with hb | ⟨r, hr, rfl⟩
  · have y : wpY_define (fun r' v' => r' = -1 ∧ i_Rel (k + 5) ((nI n), (nI L), (-1), cl, fd, tab, mk, us, rl, fi, se, th, asm, dom, sv, tr, tu, fo, ro) v') ((nI n), (nI L), tab, asm, rl, fi, se, th) v1 v2 := by
      simp only [wpY_define]
      exact yb_bad hb (br_f (by decide) ⟨by trivial, zz_mk C⟩)
    exact rg_bad hb y y
  · rcases rg_ix v2 (N := 256) (by decide) with hb | ⟨p, hp, rfl⟩
    · have y : wpY_define (fun r' v' => r' = -2 ∧ i_Rel (k + 5) ((nI n), (nI L), (-1), cl, fd, tab, mk, us, rl, fi, se, th, asm, dom, sv, tr, tu, fo, ro) v') ((nI n), (nI L), tab, asm, rl, fi, se, th) (nI r) v2 := by
        simp only [wpY_define]
        exact yb_ok hr (br_t rfl (rgM_bad (N := 255) rfl (by decide) hb ⟨by trivial, zz_mk C⟩ ⟨by trivial, zz_mk C⟩))
      exact rg_ok hr (rgM_bad (N := 255) rfl (by decide) hb y y)
    · refine xg_define C hr hp (fun hx => ?_) (fun hx => ?_)
      · exact yg_define C hr hp (fun _ => ⟨by trivial, zz_mk C⟩) (fun hy => by obtain ⟨c, h1, h2⟩ := hx; exact absurd h2 (hy c h1))
      · exact yg_define C hr hp (fun ⟨c, h1, h2⟩ => absurd h2 (hx c h1)) (fun _ => ⟨by trivial, zz_mk (zc_def C hp)⟩)
theorem i_vc_assume {k : Nat} {u : SX} {v : SY} (I : i_Rel k u v) (hk : k + 5 ≤ 2561) (v1 : Int32) (v2 : Int32) : wpX_assume (fun r u' => wpY_assume (fun r' v' => r' = r ∧ i_Rel (k + 5) u' v') v v1 v2) u v1 v2 := by
  refine zz_el (P := fun u v => wpX_assume (fun r u' => wpY_assume (fun r' v' => r' = r ∧ i_Rel (k + 5) u' v') v v1 v2) u v1 v2) ?_ I
  intro n L cl fd tab mk us rl fi se th asm dom sv tr tu fo ro T R X Y Z AS C
  have hn := C.1
  simp only [wpX_assume]
  rcases rg_ix v1 (N := n) (by omega) with hb | ⟨w, hw, rfl⟩
  · refine xi_bad hb (br_t rfl ?_)
    simp only [wpY_assume]
    exact yi_bad hb (br_f (by decide) ⟨by trivial, zz_mk C⟩)
  · have vw : vp_in (nI w) 8 := vp_in_nI (by omega) (by decide)
    rcases rg_ix v2 (N := 3) (by decide) with hb | ⟨a, ha, rfl⟩
    · have y : wpY_assume (fun r' v' => r' = -2 ∧ i_Rel (k + 5) ((nI n), (nI L), (-1), cl, fd, tab, mk, us, rl, fi, se, th, asm, dom, sv, tr, tu, fo, ro) v') ((nI n), (nI L), tab, asm, rl, fi, se, th) (nI w) v2 := by
        simp only [wpY_assume]
        exact yi_ok hn.2.1 hw (br_t rfl (rgM_bad (N := 2) rfl (by decide) hb ⟨by trivial, zz_mk C⟩ ⟨by trivial, zz_mk C⟩))
      exact xi_ok hn.2.1 hw (br_f (by decide) (rgM_bad (N := 2) rfl (by decide) hb y y))
    · refine xi_ok hn.2.1 hw (br_f (by decide) (rgM_ok (N := 2) rfl (by decide) (by omega) (And.intro vw (nm_e (And.intro vw (nm_r (e' := upd asm w (nI a)) (by rw [nI_clamp (by omega)]) ?_))))))
      simp only [wpY_assume]
      exact yi_ok hn.2.1 hw (br_t rfl (rgM_ok (N := 2) rfl (by decide) (by omega) (And.intro vw (nm_e (And.intro vw (nm_r (e' := upd asm w (nI a)) (by rw [nI_clamp (by omega)]) ⟨by trivial, zz_mk (zc_ass C ha)⟩))))))
theorem i_vc_require {k : Nat} {u : SX} {v : SY} (I : i_Rel k u v) (hk : k + 5 ≤ 2561) (v1 : Int32) (v2 : Int32) (v3 : Int32) (v4 : Int32) : wpX_require (fun r u' => wpY_require (fun r' v' => r' = r ∧ i_Rel (k + 5) u' v') v v1 v2 v3 v4) u v1 v2 v3 v4 := by
  refine zz_el (P := fun u v => wpX_require (fun r u' => wpY_require (fun r' v' => r' = r ∧ i_Rel (k + 5) u' v') v v1 v2 v3 v4) u v1 v2 v3 v4) ?_ I
  intro n L cl fd tab mk us rl fi se th asm dom sv tr tu fo ro T R X Y Z AS C
  have hn := C.1
  have m1 : ∀ v1 v2 v3 v4 : Int32, (v1 < 0 ∨ nI 6 ≤ v1) → wpY_require (fun r' v' => r' = -1 ∧ i_Rel (k + 5) ((nI n), (nI L), (-1), cl, fd, tab, mk, us, rl, fi, se, th, asm, dom, sv, tr, tu, fo, ro) v') ((nI n), (nI L), tab, asm, rl, fi, se, th) v1 v2 v3 v4 := by
    intro v1 v2 v3 v4 hb
    simp only [wpY_require]
    exact yb_bad hb (br_f (by decide) ⟨by trivial, zz_mk C⟩)
  rcases rg_ix v1 (N := 6) (by decide) with hb | ⟨r, hr, rfl⟩
  · exact rg_bad hb (m1 _ _ _ _ hb) (m1 _ _ _ _ hb)
  · refine rg_ok hr ?_
    rcases rg_ix v2 (N := n) (by omega) with hb | ⟨x, hx, rfl⟩
    · have y : wpY_require (fun r' v' => r' = -2 ∧ i_Rel (k + 5) ((nI n), (nI L), (-1), cl, fd, tab, mk, us, rl, fi, se, th, asm, dom, sv, tr, tu, fo, ro) v') ((nI n), (nI L), tab, asm, rl, fi, se, th) (nI r) v2 v3 v4 := by
        simp only [wpY_require]
        exact yb_ok hr (br_t rfl (yi_bad hb (br_f (by decide) ⟨by trivial, zz_mk C⟩)))
      exact xi_bad hb (br_t rfl y)
    · refine xi_ok hn.2.1 hx (br_f (by decide) ?_)
      rcases rg_ix v3 (N := n) (by omega) with hb | ⟨y, hy, rfl⟩
      · have y : wpY_require (fun r' v' => r' = -2 ∧ i_Rel (k + 5) ((nI n), (nI L), (-1), cl, fd, tab, mk, us, rl, fi, se, th, asm, dom, sv, tr, tu, fo, ro) v') ((nI n), (nI L), tab, asm, rl, fi, se, th) (nI r) (nI x) v3 v4 := by
          simp only [wpY_require]
          exact yb_ok hr (br_t rfl (yi_ok hn.2.1 hx (br_t rfl (yi_bad hb (br_f (by decide) ⟨by trivial, zz_mk C⟩)))))
        exact xi_bad hb (br_t rfl y)
      · refine xi_ok hn.2.1 hy (br_f (by decide) ?_)
        rcases rg_ix v4 (N := n) (by omega) with hb | ⟨z, hz, rfl⟩
        · have y : wpY_require (fun r' v' => r' = -2 ∧ i_Rel (k + 5) ((nI n), (nI L), (-1), cl, fd, tab, mk, us, rl, fi, se, th, asm, dom, sv, tr, tu, fo, ro) v') ((nI n), (nI L), tab, asm, rl, fi, se, th) (nI r) (nI x) (nI y) v4 := by
            simp only [wpY_require]
            exact yb_ok hr (br_t rfl (yi_ok hn.2.1 hx (br_t rfl (yi_ok hn.2.1 hy (br_t rfl (yi_bad hb (br_f (by decide) ⟨by trivial, zz_mk C⟩)))))))
          exact xi_bad hb (br_t rfl y)
        · refine xi_ok hn.2.1 hz (br_f (by decide) (pk_eq L 20 (fun h20 => ?_) (fun h20 => ?_)))
          · simp only [wpY_require]
            exact yb_ok hr (br_t rfl (yi_ok hn.2.1 hx (br_t rfl (yi_ok hn.2.1 hy (br_t rfl (yi_ok hn.2.1 hz (br_t rfl (br_f (nI_nlt (b := 20) (by omega) (by omega)) ⟨by trivial, zz_mk C⟩))))))))
          · have hL : L < 20 := by omega
            have vL : vp_in (nI L) 20 := vp_in_nI hL (by decide)
            have vr : vp_in (nI r) 6 := vp_in_nI hr (by decide)
            have st : ∀ (a : Nat → Int32) (b : Int32), upd a (nI L).toNatClampNeg b = upd a L b := fun a b => by rw [nI_clamp (by omega)]
            refine And.intro vL (nm_r (st rl _) (And.intro vL (nm_r (st fi _) (And.intro vL (nm_r (st se _) (And.intro vL (nm_r (st th _) (And.intro vr (And.intro vr (nm_r (e' := upd us r (us r + 1)) (by rw [nI_clamp (by omega)]) (nm_r (nI_1 L) ?_)))))))))))
            simp only [wpY_require]
            exact yb_ok hr (br_t rfl (yi_ok hn.2.1 hx (br_t rfl (yi_ok hn.2.1 hy (br_t rfl (yi_ok hn.2.1 hz (br_t rfl (br_t (nI_lt (b := 20) hL (by decide)) (And.intro vL (nm_r (st rl _) (And.intro vL (nm_r (st fi _) (And.intro vL (nm_r (st se _) (And.intro vL (nm_r (st th _) (nm_r (nI_1 L)
              ⟨by trivial, zz_mk (L := L + 1) (zc_req C hL hr hx hy hz)⟩)))))))))))))))))
theorem i_vc_retract {k : Nat} {u : SX} {v : SY} (I : i_Rel k u v) (hk : k + 5 ≤ 2561) (v1 : Int32) : wpX_retract (fun r u' => wpY_retract (fun r' v' => r' = r ∧ i_Rel (k + 5) u' v') v v1) u v1 := by
  refine zz_el (P := fun u v => wpX_retract (fun r u' => wpY_retract (fun r' v' => r' = r ∧ i_Rel (k + 5) u' v') v v1) u v1) ?_ I
  intro n L cl fd tab mk us rl fi se th asm dom sv tr tu fo ro T R X Y Z AS C
  have hn := C.1
  rcases rg_ix v1 (N := L) (by omega) with hb | ⟨i, hi, rfl⟩
  · have y : wpY_retract (fun r' v' => r' = -1 ∧ i_Rel (k + 5) ((nI n), (nI L), (-1), cl, fd, tab, mk, us, rl, fi, se, th, asm, dom, sv, tr, tu, fo, ro) v') ((nI n), (nI L), tab, asm, rl, fi, se, th) v1 := by
      simp only [wpY_retract]
      exact yp_bad hb (br_f (by decide) ⟨by trivial, zz_mk C⟩)
    by_cases g : v1 < 0
    · exact br_t g y
    · exact br_f g (br_f (Int32.not_lt.mpr (hb.resolve_left g)) y)
  · have vi : vp_in (nI i) 20 := vp_in_nI (by omega) (by decide)
    have hR := rx_R C hi
    refine br_f (nI_pos (by omega)) (br_t (nI_lt hi (by omega)) (And.intro vi (nm_r (rx_rl C hi) (nm_r (nI_1 i) ⟨L + 1, ?_⟩))))
    have X1 := xg_ret (post := fun r u' => wpY_retract (fun r' v' => r' = r ∧ i_Rel (k + 5) u' v') ((nI n), (nI L), tab, asm, rl, fi, se, th) (nI i)) (n := n) (L := L) (sk := -1) (cl := cl) (fd := fd) (tab := tab) (mk := mk) (us := us) (rl := rl) (fi := fi) (se := se) (th := th) (asm := asm) (dom := dom) (sv := sv) (tr := tr) (tu := tu) (fo := fo) (ro := ro) (i := i) (r := R i) hR hn.2.2 ?_ (L - 1 - i) (L + 1) (by omega) i (Nat.le_refl i) (by omega)
    · rw [rv_0, rv_0, rv_0, rv_0] at X1; exact X1
    · simp only [wpY_retract]
      refine yp_ok hn.2.2 hi (br_t rfl (And.intro vi (nm_r (rx_rl C hi) ⟨L + 1, ?_⟩)))
      have Y1 := yg_ret (post := fun r' v' => r' = nI (R i) ∧ i_Rel (k + 5) ((nI n), (nI (L - 1)), (-1), cl, fd, tab, mk, (upd us (R i) (us (R i) - 1)), (rv_sh rl i (L - 1)), (rv_sh fi i (L - 1)), (rv_sh se i (L - 1)), (rv_sh th i (L - 1)), asm, dom, sv, tr, tu, fo, ro) v') (n := n) (L := L) (tab := tab) (rl := rl) (fi := fi) (se := se) (th := th) (asm := asm) (i := i) (r := R i) hn.2.2 ⟨by trivial, zz_mk (L := L - 1) (zc_ret C hi)⟩ (L - 1 - i) (L + 1) (by omega) i (Nat.le_refl i) (by omega)
      rw [rv_0, rv_0, rv_0, rv_0] at Y1; exact Y1
end
section
/-! the questions: both sides' answers are equal -/
theorem zq_beq {a b : Bool} {P Q : Prop} (ha : a = true ↔ P) (hb : b = true ↔ Q) (h : P ↔ Q) : a = b := by
  cases a
  · cases b
    · rfl
    · exact absurd (ha.mpr (h.mpr (hb.mp rfl))) (by decide)
  · exact (hb.mpr (h.mp (ha.mp rfl))).symm
section
variable {n L : Nat} {sk cl fd : Int32} {tab mk us rl fi se th asm dom sv tr tu fo ro : Nat → Int32} {T R X Y Z AS D : Nat → Nat}
theorem zq_ex {P : (Nat → Bool) → Prop} (C : rx_C n L tab mk us rl fi se th asm T R X Y Z AS) (hP : ∀ e e' : Nat → Bool, (∀ v, v < n → e v = e' v) → P e → P e') :
    (∃ e, rn_Sol n (rx_Ac L sk) (fun c => T (R c)) X Y Z (rx_as AS) e ∧ P e) ↔ ∃ m, m < 2 ^ n ∧ rn_Sol n (rx_Ac L sk) (fun c => T (R c)) X Y Z (rx_as AS) (fun v => m.testBit v) ∧ P (fun v => m.testBit v) :=
  rc_ex (P := fun e => rn_Sol n (rx_Ac L sk) (fun c => T (R c)) X Y Z (rx_as AS) e ∧ P e) (fun e e' h g => ⟨xq_cg C e e' h g.1, hP e e' h g.2⟩)
theorem zq_bit {j b : Nat} (C : rx_C n L tab mk us rl fi se th asm T R X Y Z AS) (hj : j < n) : (∃ e, rn_Sol n (rx_Ac L sk) (fun c => T (R c)) X Y Z (rx_as AS) e ∧ (e j).toNat = b) ↔ ∃ m, m < 2 ^ n ∧ rn_Sol n (rx_Ac L sk) (fun c => T (R c)) X Y Z (rx_as AS) (fun v => m.testBit v) ∧ (m.testBit j).toNat = b :=
  zq_ex C (P := fun e => (e j).toNat = b) (fun e e' h g => by rw [← h j hj]; exact g)
theorem zq_all {x y z Tn : Nat} (C : rx_C n L tab mk us rl fi se th asm T R X Y Z AS) (hx : x < n) (hy : y < n) (hz : z < n) :
    (∀ e, rn_Sol n (rx_Ac L sk) (fun c => T (R c)) X Y Z (rx_as AS) e → Tn.testBit (rn_tri (e x) (e y) (e z)) = true) ↔ ∀ m, m < 2 ^ n → rn_Sol n (rx_Ac L sk) (fun c => T (R c)) X Y Z (rx_as AS) (fun v => m.testBit v) → Tn.testBit (rn_tri (m.testBit x) (m.testBit y) (m.testBit z)) = true := by
  constructor
  · exact fun h m _ g => h _ g
  · intro h e he
    have b := rc_nm_b e n
    have := h (rc_nm e n) (rc_nm_lt e n) (xq_cg C _ _ (fun v hv => (b v hv).symm) he)
    rw [b x hx, b y hy, b z hz] at this
    exact this
theorem zq_red {i : Nat} (C : rx_C n L tab mk us rl fi se th asm T R X Y Z AS) (hi : i < L) (m : Nat) : ym_Q n L T R X Y Z AS m ↔
    (rn_Sol n (rx_Ac L (nI i)) (fun c => T (R c)) X Y Z (rx_as AS) (fun v => m.testBit v) ∧ (T (R i)).testBit (rn_tri (m.testBit (X i)) (m.testBit (Y i)) (m.testBit (Z i))) = true) := by
  have hn := C.1
  have neg : ∀ c, c < L → ¬ nI c = -1 := fun c hc g => by
    have := nI_pos (n := c) (by omega)
    rw [g] at this
    exact this (by decide)
  constructor
  · rintro ⟨h1, h2⟩
    exact ⟨⟨h1, fun c hc => h2 c ⟨hc.1, neg c hc.1⟩⟩, h2 i ⟨hi, neg i hi⟩⟩
  · rintro ⟨⟨h1, h2⟩, h3⟩
    refine ⟨h1, fun c hc => ?_⟩
    by_cases e : c = i
    · rw [e]; exact h3
    · refine h2 c ⟨hc.1, fun g => e ?_⟩
      rw [nI_eq (by have := hc.1; omega) (by omega)] at g
      exact g
end
theorem i_vc_size {k : Nat} {u : SX} {v : SY} (I : i_Rel k u v) (hk : k + 5 ≤ 2561) : wpX_size (fun r => wpY_size (fun r' => r' = r ∧ i_Rel (k + 5) u v) v) u := by
  refine zz_el (P := fun u v => wpX_size (fun r => wpY_size (fun r' => r' = r ∧ i_Rel (k + 5) u v) v) u) ?_ I
  intro n L cl fd tab mk us rl fi se th asm dom sv tr tu fo ro T R X Y Z AS C
  exact ⟨rfl, zz_mk C⟩
theorem i_vc_table {k : Nat} {u : SX} {v : SY} (I : i_Rel k u v) (hk : k + 5 ≤ 2561) (v1 : Int32) : wpX_table (fun r => wpY_table (fun r' => r' = r ∧ i_Rel (k + 5) u v) v v1) u v1 := by
  refine zz_el (P := fun u v => wpX_table (fun r => wpY_table (fun r' => r' = r ∧ i_Rel (k + 5) u v) v v1) u v1) ?_ I
  intro n L cl fd tab mk us rl fi se th asm dom sv tr tu fo ro T R X Y Z AS C
  rcases rg_ix v1 (N := 6) (by decide) with hb | ⟨r, hr, rfl⟩
  · have y : wpY_table (fun r' => r' = -1 ∧ i_Rel (k + 5) ((nI n), (nI L), (-1), cl, fd, tab, mk, us, rl, fi, se, th, asm, dom, sv, tr, tu, fo, ro) ((nI n), (nI L), tab, asm, rl, fi, se, th)) ((nI n), (nI L), tab, asm, rl, fi, se, th) v1 := by
      simp only [wpY_table]
      exact yb_bad hb (br_f (by decide) ⟨by trivial, zz_mk C⟩)
    exact rg_bad hb y y
  · refine rg_ok hr (And.intro (vp_in_nI hr (by decide)) ?_)
    simp only [wpY_table]
    exact yb_ok hr (br_t rfl (And.intro (vp_in_nI hr (by decide)) ⟨by trivial, zz_mk C⟩))
theorem i_vc_traits {k : Nat} {u : SX} {v : SY} (I : i_Rel k u v) (hk : k + 5 ≤ 2561) (v1 : Int32) : wpX_traits (fun r => wpY_traits (fun r' => r' = r ∧ i_Rel (k + 5) u v) v v1) u v1 := by
  refine zz_el (P := fun u v => wpX_traits (fun r => wpY_traits (fun r' => r' = r ∧ i_Rel (k + 5) u v) v v1) u v1) ?_ I
  intro n L cl fd tab mk us rl fi se th asm dom sv tr tu fo ro T R X Y Z AS C
  rcases rg_ix v1 (N := 6) (by decide) with hb | ⟨r, hr, rfl⟩
  · have y : wpY_traits (fun r' => r' = -1 ∧ i_Rel (k + 5) ((nI n), (nI L), (-1), cl, fd, tab, mk, us, rl, fi, se, th, asm, dom, sv, tr, tu, fo, ro) ((nI n), (nI L), tab, asm, rl, fi, se, th)) ((nI n), (nI L), tab, asm, rl, fi, se, th) v1 := by
      simp only [wpY_traits]
      exact yb_bad hb (br_f (by decide) ⟨by trivial, zz_mk C⟩)
    exact rg_bad hb y y
  · refine rg_ok hr (And.intro (vp_in_nI hr (by decide)) (yt_traits C hr ⟨?_, zz_mk C⟩))
    exact (rx_mk C hr).symm
theorem i_vc_netTraits {k : Nat} {u : SX} {v : SY} (I : i_Rel k u v) (hk : k + 5 ≤ 2561) : wpX_netTraits (fun r => wpY_netTraits (fun r' => r' = r ∧ i_Rel (k + 5) u v) v) u := by
  refine zz_el (P := fun u v => wpX_netTraits (fun r => wpY_netTraits (fun r' => r' = r ∧ i_Rel (k + 5) u v) v) u) ?_ I
  intro n L cl fd tab mk us rl fi se th asm dom sv tr tu fo ro T R X Y Z AS C
  exact xn_net C (fun N hN => yt_net C (fun N' hN' => ⟨congrArg nI (rx_nt_eq hN hN'), zz_mk C⟩))
theorem i_vc_satisfiable {k : Nat} {u : SX} {v : SY} (I : i_Rel k u v) (hk : k + 5 ≤ 2561) : wpX_satisfiable (fun r u' => wpY_satisfiable (fun r' => r' = r ∧ i_Rel (k + 5) u' v) v) u := by
  refine zz_el (P := fun u v => wpX_satisfiable (fun r u' => wpY_satisfiable (fun r' => r' = r ∧ i_Rel (k + 5) u' v) v) u) ?_ I
  intro n L cl fd tab mk us rl fi se th asm dom sv tr tu fo ro T R X Y Z AS C
  exact xz_sat C (fun cl' fd' dom' sv' tr' tu' fo' ro' => ya_sat C ⟨rt_c (rc_ex (xq_cg C)).symm, zz_mk C⟩)
theorem i_vc_solutions {k : Nat} {u : SX} {v : SY} (I : i_Rel k u v) (hk : k + 5 ≤ 2561) : wpX_solutions (fun r u' => wpY_solutions (fun r' => r' = r ∧ i_Rel (k + 5) u' v) v) u := by
  refine zz_el (P := fun u v => wpX_solutions (fun r u' => wpY_solutions (fun r' => r' = r ∧ i_Rel (k + 5) u' v) v) u) ?_ I
  intro n L cl fd tab mk us rl fi se th asm dom sv tr tu fo ro T R X Y Z AS C
  exact xz_sols C (fun cl' fd' dom' sv' tr' tu' fo' ro' => ya_sols C ⟨congrArg nI (rc_link (xq_cg C) (fun _ => false)).symm, zz_mk C⟩)
theorem i_vc_least {k : Nat} {u : SX} {v : SY} (I : i_Rel k u v) (hk : k + 5 ≤ 2561) : wpX_least (fun r u' => wpY_least (fun r' => r' = r ∧ i_Rel (k + 5) u' v) v) u := by
  refine zz_el (P := fun u v => wpX_least (fun r u' => wpY_least (fun r' => r' = r ∧ i_Rel (k + 5) u' v) v) u) ?_ I
  intro n L cl fd tab mk us rl fi se th asm dom sv tr tu fo ro T R X Y Z AS C
  refine xz_least C (fun g cl' fd' dom' sv' tr' tu' fo' ro' => ya_least C (fun _ => ⟨rfl, zz_mk C⟩) (fun m hm hq _ => absurd hq (g m hm)))
    (fun m hm g1 g2 cl' fd' dom' sv' tr' tu' fo' ro' => ya_least C (fun g => absurd g1 (g m hm)) (fun m' hm' hq' g3 => ⟨congrArg nI ?_, zz_mk C⟩))
  have a := g2 m' hm' hq'
  have b : ¬ m < m' := fun z => g3 m z g1
  omega
theorem i_vc_greatest {k : Nat} {u : SX} {v : SY} (I : i_Rel k u v) (hk : k + 5 ≤ 2561) : wpX_greatest (fun r u' => wpY_greatest (fun r' => r' = r ∧ i_Rel (k + 5) u' v) v) u := by
  refine zz_el (P := fun u v => wpX_greatest (fun r u' => wpY_greatest (fun r' => r' = r ∧ i_Rel (k + 5) u' v) v) u) ?_ I
  intro n L cl fd tab mk us rl fi se th asm dom sv tr tu fo ro T R X Y Z AS C
  refine xz_greatest C (fun g cl' fd' dom' sv' tr' tu' fo' ro' => ya_greatest C (fun _ => ⟨rfl, zz_mk C⟩) (fun m hm hq _ => absurd hq (g m hm)))
    (fun m hm g1 g2 cl' fd' dom' sv' tr' tu' fo' ro' => ya_greatest C (fun g => absurd g1 (g m hm)) (fun m' hm' hq' g3 => ⟨congrArg nI ?_, zz_mk C⟩))
  have a := g2 m' hm' hq'
  have b := g3 m hm g1
  omega
theorem i_vc_next {k : Nat} {u : SX} {v : SY} (I : i_Rel k u v) (hk : k + 5 ≤ 2561) (v1 : Int32) : wpX_next (fun r u' => wpY_next (fun r' => r' = r ∧ i_Rel (k + 5) u' v) v v1) u v1 := by
  refine zz_el (P := fun u v => wpX_next (fun r u' => wpY_next (fun r' => r' = r ∧ i_Rel (k + 5) u' v) v v1) u v1) ?_ I
  intro n L cl fd tab mk us rl fi se th asm dom sv tr tu fo ro T R X Y Z AS C
  refine xz_next C (fun g cl' fd' dom' sv' tr' tu' fo' ro' => ya_next C (fun _ => ⟨rfl, zz_mk C⟩) (fun m hm hp hq _ => absurd hq (g m hm hp)))
    (fun m hm hp g1 g2 cl' fd' dom' sv' tr' tu' fo' ro' => ya_next C (fun g => absurd g1 (g m hm hp)) (fun m' hm' hp' hq' g3 => ⟨congrArg nI ?_, zz_mk C⟩))
  have a := g2 m' hm' hp' hq'
  have b : ¬ m < m' := fun z => g3 m z hp g1
  omega
theorem i_vc_possible {k : Nat} {u : SX} {v : SY} (I : i_Rel k u v) (hk : k + 5 ≤ 2561) (v1 : Int32) (v2 : Int32) : wpX_possible (fun r u' => wpY_possible (fun r' => r' = r ∧ i_Rel (k + 5) u' v) v v1 v2) u v1 v2 := by
  refine zz_el (P := fun u v => wpX_possible (fun r u' => wpY_possible (fun r' => r' = r ∧ i_Rel (k + 5) u' v) v v1 v2) u v1 v2) ?_ I
  intro n L cl fd tab mk us rl fi se th asm dom sv tr tu fo ro T R X Y Z AS C
  have hn := C.1
  simp only [wpX_possible]
  rcases rg_ix v1 (N := n) (by omega) with hb | ⟨w, hw, rfl⟩
  · refine xi_bad hb (br_t rfl ?_)
    simp only [wpY_possible]
    exact yi_bad hb (br_f (by decide) ⟨by trivial, zz_mk C⟩)
  · refine xi_ok hn.2.1 hw (br_f (by decide) ?_)
    have go : ∀ b, b < 2 → ∀ post : Int32 → SX → Prop, (∀ (cl' fd' : Int32) (dom' sv' tr' tu' fo' ro' : Nat → Int32), post (rt_fl (∃ m, m < 2 ^ n ∧ ym_Q n L T R X Y Z AS m ∧ (m.testBit w).toNat = b)) ((nI n), (nI L), (-1), cl', fd', tab, mk, us, rl, fi, se, th, asm, dom', sv', tr', tu', fo', ro')) → wX_possible_22 post (nI w) (nI b) (nI n) (nI L) (-1) cl fd tab mk us rl fi se th asm dom sv tr tu fo ro := by
      intro b hb post hpost
      unfold wX_possible_22
      refine xq_can C hw hw hb hb ?_
      intro cl' fd' dom' sv' tr' tu' fo' ro'
      refine xz_01 ?_
      rw [rt_c (q := ∃ m, m < 2 ^ n ∧ ym_Q n L T R X Y Z AS m ∧ (m.testBit w).toNat = b)]
      · exact hpost cl' fd' dom' sv' tr' tu' fo' ro'
      · refine Iff.trans ⟨fun ⟨e, h1, h2, _⟩ => ⟨e, h1, h2⟩, fun ⟨e, h1, h2⟩ => ⟨e, h1, h2, h2⟩⟩ (zq_bit C hw)
    refine br_c (fun h0 => ?_) (fun h0 => br_c (fun h1 => ?_) (fun h1 => ?_))
    · subst h0
      refine go 0 (by decide) _ (fun cl' fd' dom' sv' tr' tu' fo' ro' => ?_)
      simp only [wpY_possible]
      exact yi_ok hn.2.1 hw (br_t rfl (br_t (by trivial) (ya_possible (b := 0) C hw (by decide) ⟨rfl, zz_mk C⟩)))
    · subst h1
      refine go 1 (by decide) _ (fun cl' fd' dom' sv' tr' tu' fo' ro' => ?_)
      simp only [wpY_possible]
      exact yi_ok hn.2.1 hw (br_t rfl (br_f (by decide) (br_t (by trivial) (ya_possible (b := 1) C hw (by decide) ⟨rfl, zz_mk C⟩))))
    · simp only [wpY_possible]
      exact yi_ok hn.2.1 hw (br_t rfl (br_f h0 (br_f h1 ⟨by trivial, zz_mk C⟩)))
theorem i_vc_alwaysOne {k : Nat} {u : SX} {v : SY} (I : i_Rel k u v) (hk : k + 5 ≤ 2561) : wpX_alwaysOne (fun r u' => wpY_alwaysOne (fun r' => r' = r ∧ i_Rel (k + 5) u' v) v) u := by
  refine zz_el (P := fun u v => wpX_alwaysOne (fun r u' => wpY_alwaysOne (fun r' => r' = r ∧ i_Rel (k + 5) u' v) v) u) ?_ I
  intro n L cl fd tab mk us rl fi se th asm dom sv tr tu fo ro T R X Y Z AS C
  simp only [wpX_alwaysOne]
  refine xz_always (w := 1) C (by decide) (fun g cl' fd' dom' sv' tr' tu' fo' ro' => ya_one C (fun _ => ⟨rfl, zz_mk C⟩) (fun m hm hq _ _ => absurd ⟨_, hq⟩ g))
    (fun g s hs g1 cl' fd' dom' sv' tr' tu' fo' ro' => ya_one C (fun g2 => ?_) (fun m hm hq s' g2 => ⟨congrArg nI (Nat.eq_of_testBit_eq (fun j => zq_beq (g2 j) (g1 j) ?_)), zz_mk C⟩))
  · obtain ⟨m, hm, hq⟩ := (rc_ex (xq_cg C)).mp g
    exact absurd hq (g2 m hm)
  · constructor
    · rintro ⟨hj, h⟩
      refine ⟨hj, fun q => ?_⟩
      obtain ⟨m', h1, h2, h3⟩ := (zq_bit C hj).mp q
      rw [h m' h1 h2] at h3
      exact absurd h3 (by decide)
    · rintro ⟨hj, h⟩
      refine ⟨hj, fun m' h1 h2 => ?_⟩
      cases hb : m'.testBit j
      · exact absurd ((zq_bit C hj).mpr ⟨m', h1, h2, by rw [hb]; rfl⟩) h
      · rfl
theorem i_vc_alwaysZero {k : Nat} {u : SX} {v : SY} (I : i_Rel k u v) (hk : k + 5 ≤ 2561) : wpX_alwaysZero (fun r u' => wpY_alwaysZero (fun r' => r' = r ∧ i_Rel (k + 5) u' v) v) u := by
  refine zz_el (P := fun u v => wpX_alwaysZero (fun r u' => wpY_alwaysZero (fun r' => r' = r ∧ i_Rel (k + 5) u' v) v) u) ?_ I
  intro n L cl fd tab mk us rl fi se th asm dom sv tr tu fo ro T R X Y Z AS C
  simp only [wpX_alwaysZero]
  refine xz_always (w := 0) C (by decide) (fun g cl' fd' dom' sv' tr' tu' fo' ro' => ya_zero C (fun _ => ⟨rfl, zz_mk C⟩) (fun m hm hq _ _ => absurd ⟨_, hq⟩ g))
    (fun g s hs g1 cl' fd' dom' sv' tr' tu' fo' ro' => ya_zero C (fun g2 => ?_) (fun m hm hq s' g2 => ⟨congrArg nI (Nat.eq_of_testBit_eq (fun j => zq_beq (g2 j) (g1 j) ?_)), zz_mk C⟩))
  · obtain ⟨m, hm, hq⟩ := (rc_ex (xq_cg C)).mp g
    exact absurd hq (g2 m hm)
  · constructor
    · rintro ⟨hj, h⟩
      refine ⟨hj, fun q => ?_⟩
      obtain ⟨m', h1, h2, h3⟩ := (zq_bit C hj).mp q
      rw [h m' h1 h2] at h3
      exact absurd h3 (by decide)
    · rintro ⟨hj, h⟩
      refine ⟨hj, fun m' h1 h2 => ?_⟩
      cases hb : m'.testBit j
      · rfl
      · exact absurd ((zq_bit C hj).mpr ⟨m', h1, h2, by rw [hb]; rfl⟩) h
theorem zq_k4 : ∀ k, k < 4 → 2 * (k.testBit 1).toNat + (k.testBit 0).toNat = k := by decide
theorem zq_k4b : ∀ a b : Bool, 2 * a.toNat + b.toNat < 4 ∧ (2 * a.toNat + b.toNat).testBit 1 = a ∧ (2 * a.toNat + b.toNat).testBit 0 = b := by decide
theorem i_vc_pairs {k : Nat} {u : SX} {v : SY} (I : i_Rel k u v) (hk : k + 5 ≤ 2561) (v1 : Int32) (v2 : Int32) : wpX_pairs (fun r u' => wpY_pairs (fun r' => r' = r ∧ i_Rel (k + 5) u' v) v v1 v2) u v1 v2 := by
  refine zz_el (P := fun u v => wpX_pairs (fun r u' => wpY_pairs (fun r' => r' = r ∧ i_Rel (k + 5) u' v) v v1 v2) u v1 v2) ?_ I
  intro n L cl fd tab mk us rl fi se th asm dom sv tr tu fo ro T R X Y Z AS C
  have hn := C.1
  simp only [wpX_pairs]
  rcases rg_ix v1 (N := n) (by omega) with hb | ⟨x, hx, rfl⟩
  · refine xi_bad hb (br_t rfl ?_)
    simp only [wpY_pairs]
    exact yi_bad hb (br_f (by decide) ⟨by trivial, zz_mk C⟩)
  · refine xi_ok hn.2.1 hx (br_f (by decide) ?_)
    rcases rg_ix v2 (N := n) (by omega) with hb | ⟨y, hy, rfl⟩
    · refine xi_bad hb (br_t rfl ?_)
      simp only [wpY_pairs]
      exact yi_ok hn.2.1 hx (br_t rfl (yi_bad hb (br_f (by decide) ⟨by trivial, zz_mk C⟩)))
    · refine xi_ok hn.2.1 hy (br_f (by decide) (xz_pairs C hx hy (fun s hs g cl' fd' dom' sv' tr' tu' fo' ro' => ?_)))
      simp only [wpY_pairs]
      refine yi_ok hn.2.1 hx (br_t rfl (yi_ok hn.2.1 hy (br_t rfl (ya_pairs C hx hy (fun s' g' => ⟨congrArg nI (Nat.eq_of_testBit_eq (fun j => zq_beq (g' j) (g j) ?_)), zz_mk C⟩)))))
      have q := zq_ex (sk := -1) C (P := fun e => (e x).toNat = (j.testBit 1).toNat ∧ (e y).toNat = (j.testBit 0).toNat) (fun e e' h r => by rw [← h x hx, ← h y hy]; exact r)
      rw [q]
      constructor
      · rintro ⟨m, h1, h2, rfl⟩
        obtain ⟨a, b, c⟩ := zq_k4b (m.testBit x) (m.testBit y)
        exact ⟨a, m, h1, h2, by rw [b], by rw [c]⟩
      · rintro ⟨h4, m, h1, h2, h3, h5⟩
        refine ⟨m, h1, h2, ?_⟩
        have h3' : m.testBit x = j.testBit 1 := rb_inj h3
        have h5' : m.testBit y = j.testBit 0 := rb_inj h5
        rw [h3', h5']
        exact zq_k4 j h4
theorem i_vc_entails {k : Nat} {u : SX} {v : SY} (I : i_Rel k u v) (hk : k + 5 ≤ 2561) (v1 : Int32) (v2 : Int32) (v3 : Int32) (v4 : Int32) : wpX_entails (fun r u' => wpY_entails (fun r' => r' = r ∧ i_Rel (k + 5) u' v) v v1 v2 v3 v4) u v1 v2 v3 v4 := by
  refine zz_el (P := fun u v => wpX_entails (fun r u' => wpY_entails (fun r' => r' = r ∧ i_Rel (k + 5) u' v) v v1 v2 v3 v4) u v1 v2 v3 v4) ?_ I
  intro n L cl fd tab mk us rl fi se th asm dom sv tr tu fo ro T R X Y Z AS C
  have hn := C.1
  rcases rg_ix v1 (N := 6) (by decide) with hb | ⟨r, hr, rfl⟩
  · have y : wpY_entails (fun r' => r' = -1 ∧ i_Rel (k + 5) ((nI n), (nI L), (-1), cl, fd, tab, mk, us, rl, fi, se, th, asm, dom, sv, tr, tu, fo, ro) ((nI n), (nI L), tab, asm, rl, fi, se, th)) ((nI n), (nI L), tab, asm, rl, fi, se, th) v1 v2 v3 v4 := by
      simp only [wpY_entails]
      exact yb_bad hb (br_f (by decide) ⟨by trivial, zz_mk C⟩)
    exact rg_bad hb y y
  · refine rg_ok hr ?_
    rcases rg_ix v2 (N := n) (by omega) with hb | ⟨x, hx, rfl⟩
    · refine xi_bad hb (br_t rfl ?_)
      simp only [wpY_entails]
      exact yb_ok hr (br_t rfl (yi_bad hb (br_f (by decide) ⟨by trivial, zz_mk C⟩)))
    · refine xi_ok hn.2.1 hx (br_f (by decide) ?_)
      rcases rg_ix v3 (N := n) (by omega) with hb | ⟨y, hy, rfl⟩
      · refine xi_bad hb (br_t rfl ?_)
        simp only [wpY_entails]
        exact yb_ok hr (br_t rfl (yi_ok hn.2.1 hx (br_t rfl (yi_bad hb (br_f (by decide) ⟨by trivial, zz_mk C⟩)))))
      · refine xi_ok hn.2.1 hy (br_f (by decide) ?_)
        rcases rg_ix v4 (N := n) (by omega) with hb | ⟨z, hz, rfl⟩
        · refine xi_bad hb (br_t rfl ?_)
          simp only [wpY_entails]
          exact yb_ok hr (br_t rfl (yi_ok hn.2.1 hx (br_t rfl (yi_ok hn.2.1 hy (br_t rfl (yi_bad hb (br_f (by decide) ⟨by trivial, zz_mk C⟩)))))))
        · refine xi_ok hn.2.1 hz (br_f (by decide) (And.intro (vp_in_nI hr (by decide)) ?_))
          rw [rx_tab C hr]
          refine xz_within C hx hy hz (rx_T C hr) (fun cl' fd' dom' sv' tr' tu' fo' ro' => ?_)
          have y : wpY_entails (fun r' => r' = rt_fl (∀ e, rn_Sol n (rx_Ac L (-1)) (fun c => T (R c)) X Y Z (rx_as AS) e → (T r).testBit (rn_tri (e x) (e y) (e z)) = true) ∧ i_Rel (k + 5) ((nI n), (nI L), (-1), cl', fd', tab, mk, us, rl, fi, se, th, asm, dom', sv', tr', tu', fo', ro') ((nI n), (nI L), tab, asm, rl, fi, se, th)) ((nI n), (nI L), tab, asm, rl, fi, se, th) (nI r) (nI x) (nI y) (nI z) := by
            simp only [wpY_entails]
            exact yb_ok hr (br_t rfl (yi_ok hn.2.1 hx (br_t rfl (yi_ok hn.2.1 hy (br_t rfl (yi_ok hn.2.1 hz (br_t rfl (ya_entails C hr hx hy hz ⟨rt_c (zq_all C hx hy hz).symm, zz_mk C⟩))))))))
          refine rt_if (fun hp => ?_) (fun hp => ?_)
          · rw [rt_t hp] at y; exact y
          · rw [rt_f hp] at y; exact y
theorem i_vc_redundant {k : Nat} {u : SX} {v : SY} (I : i_Rel k u v) (hk : k + 5 ≤ 2561) (v1 : Int32) : wpX_redundant (fun r u' => wpY_redundant (fun r' => r' = r ∧ i_Rel (k + 5) u' v) v v1) u v1 := by
  refine zz_el (P := fun u v => wpX_redundant (fun r u' => wpY_redundant (fun r' => r' = r ∧ i_Rel (k + 5) u' v) v v1) u v1) ?_ I
  intro n L cl fd tab mk us rl fi se th asm dom sv tr tu fo ro T R X Y Z AS C
  have hn := C.1
  rcases rg_ix v1 (N := L) (by omega) with hb | ⟨i, hi, rfl⟩
  · have y : wpY_redundant (fun r' => r' = -1 ∧ i_Rel (k + 5) ((nI n), (nI L), (-1), cl, fd, tab, mk, us, rl, fi, se, th, asm, dom, sv, tr, tu, fo, ro) ((nI n), (nI L), tab, asm, rl, fi, se, th)) ((nI n), (nI L), tab, asm, rl, fi, se, th) v1 := by
      simp only [wpY_redundant]
      exact yp_bad hb (br_f (by decide) ⟨by trivial, zz_mk C⟩)
    by_cases g : v1 < 0
    · exact br_t g y
    · exact br_f g (br_f (Int32.not_lt.mpr (hb.resolve_left g)) y)
  · have vi : vp_in (nI i) 20 := vp_in_nI (by omega) (by decide)
    have hR := rx_R C hi
    obtain ⟨hx, hy, hz⟩ := rx_X C hi
    refine br_f (nI_pos (by omega)) (br_t (nI_lt hi (by omega)) (And.intro vi (And.intro (by rw [rx_rl C hi]; exact vp_in_nI hR (by decide)) (And.intro vi (And.intro vi (And.intro vi ?_))))))
    rw [rx_tt C hi, rx_fi C hi, rx_se C hi, rx_th C hi]
    refine xz_within (sk := nI i) C hx hy hz (rx_T C hR) (fun cl' fd' dom' sv' tr' tu' fo' ro' => ?_)
    have y : wpY_redundant (fun r' => r' = rt_fl (∀ e, rn_Sol n (rx_Ac L (nI i)) (fun c => T (R c)) X Y Z (rx_as AS) e → (T (R i)).testBit (rn_tri (e (X i)) (e (Y i)) (e (Z i))) = true) ∧ i_Rel (k + 5) ((nI n), (nI L), (-1), cl', fd', tab, mk, us, rl, fi, se, th, asm, dom', sv', tr', tu', fo', ro') ((nI n), (nI L), tab, asm, rl, fi, se, th)) ((nI n), (nI L), tab, asm, rl, fi, se, th) (nI i) := by
      simp only [wpY_redundant]
      refine yp_ok hn.2.2 hi (br_t rfl (ya_redundant C ⟨rt_c ?_, zz_mk C⟩))
      rw [zq_all C hx hy hz]
      constructor
      · exact fun g m hm hq => ((zq_red C hi m).mp ((g m hm).mpr hq)).2
      · exact fun g m hm => ⟨fun q => ((zq_red C hi m).mp q).1, fun q => (zq_red C hi m).mpr ⟨q, g m hm q⟩⟩
    refine rt_if (fun hp => ?_) (fun hp => ?_)
    · rw [rt_t hp] at y; exact y
    · rw [rt_f hp] at y; exact y
end
