section
/-! pure games: positions are numbers, A p x: Left may move from p to x, B p x: Right may; every move leads to a lesser number -/
/-- p + q is at least r: no move of Right in p or q, and none of Left in r, brings the sum to at most the third (at most: the same with the sides changed) -/
def gv_G (A B : Nat → Nat → Prop) (p q r : Nat) : Prop :=
  (∀ x, x < p → B p x → ¬ gv_G B A x q r) ∧ (∀ x, x < q → B q x → ¬ gv_G B A p x r) ∧ (∀ x, x < r → A r x → ¬ gv_G B A p q x)
termination_by p + q + r
decreasing_by all_goals omega
theorem gv_eq (A B : Nat → Nat → Prop) (p q r : Nat) : gv_G A B p q r ↔ ((∀ x, x < p → B p x → ¬ gv_G B A x q r) ∧ (∀ x, x < q → B q x → ¬ gv_G B A p x r) ∧ (∀ x, x < r → A r x → ¬ gv_G B A p q x)) := by
  rw [gv_G]
theorem gv_sym_n (A B : Nat → Nat → Prop) : ∀ N p r, p + r < N → (gv_G B A p 0 r ↔ gv_G A B r 0 p) := by
  intro N
  induction N with
  | zero => intro p r h; exact absurd h (Nat.not_lt_zero _)
  | succ N ih =>
    intro p r h
    rw [gv_eq B A p 0 r, gv_eq A B r 0 p]
    constructor
    · intro ⟨h1, _, h3⟩
      exact ⟨fun x hx hb hg => h3 x hx hb ((ih x p (by omega)).mp hg), fun x hx => absurd hx (Nat.not_lt_zero x), fun x hx ha hg => h1 x hx ha ((ih r x (by omega)).mp hg)⟩
    · intro ⟨h1, _, h3⟩
      exact ⟨fun x hx ha hg => h3 x hx ha ((ih r x (by omega)).mpr hg), fun x hx => absurd hx (Nat.not_lt_zero x), fun x hx hb hg => h1 x hx hb ((ih x p (by omega)).mpr hg)⟩
theorem gv_sym (A B : Nat → Nat → Prop) (p r : Nat) : gv_G B A p 0 r ↔ gv_G A B r 0 p := gv_sym_n A B _ p r (Nat.lt_succ_self _)
theorem gv_refl_n (A B : Nat → Nat → Prop) : ∀ N p, p < N → gv_G A B p 0 p := by
  intro N
  induction N with
  | zero => intro p h; exact absurd h (Nat.not_lt_zero _)
  | succ N ih =>
    intro p h
    rw [gv_eq A B p 0 p]
    refine ⟨fun x hx hb hg => ?_, fun x hx => absurd hx (Nat.not_lt_zero x), fun x hx ha hg => ?_⟩
    · exact ((gv_eq B A x 0 p).mp hg).2.2 x hx hb (ih x (by omega))
    · exact ((gv_eq B A p 0 x).mp hg).1 x hx ha (ih x (by omega))
theorem gv_refl (A B : Nat → Nat → Prop) (p : Nat) : gv_G A B p 0 p := gv_refl_n A B _ p (Nat.lt_succ_self _)
theorem gv_trans_n (A B : Nat → Nat → Prop) : ∀ N a b c, a + b + c < N → gv_G A B a 0 b → gv_G A B b 0 c → gv_G A B a 0 c := by
  intro N
  induction N with
  | zero => intro a b c h; exact absurd h (Nat.not_lt_zero _)
  | succ N ih =>
    intro a b c h hab hbc
    rw [gv_eq A B a 0 c]
    refine ⟨fun x hx hb hg => ?_, fun x hx => absurd hx (Nat.not_lt_zero x), fun x hx ha hg => ?_⟩
    · have h1 : gv_G A B b 0 x := ih b c x (by omega) hbc ((gv_sym A B x c).mp hg)
      exact ((gv_eq A B a 0 b).mp hab).1 x hx hb ((gv_sym A B x b).mpr h1)
    · have h1 : gv_G A B x 0 b := ih x a b (by omega) ((gv_sym A B a x).mp hg) hab
      exact ((gv_eq A B b 0 c).mp hbc).2.2 x hx ha ((gv_sym A B b x).mpr h1)
theorem gv_trans {A B : Nat → Nat → Prop} {a b c : Nat} (h1 : gv_G A B a 0 b) (h2 : gv_G A B b 0 c) : gv_G A B a 0 c := gv_trans_n A B _ a b c (Nat.lt_succ_self _) h1 h2
theorem gv_sum_n (A B : Nat → Nat → Prop) : ∀ N a c b, a + c + b < N →
    (gv_G A B a 0 b → gv_G A B c 0 0 → gv_G A B a c b) ∧ (gv_G B A a c b → gv_G A B c 0 0 → gv_G B A a 0 b) ∧ (gv_G B A a c b → gv_G A B a 0 b → gv_G B A c 0 0) := by
  intro N
  induction N with
  | zero => intro a c b h; exact absurd h (Nat.not_lt_zero _)
  | succ N ih =>
    intro a c b h
    refine ⟨fun hab hc => ?_, fun hs hc => ?_, fun hs hab => ?_⟩
    · have eab := (gv_eq A B a 0 b).mp hab
      rw [gv_eq A B a c b]
      refine ⟨fun x hx hb hg => ?_, fun x hx hb hg => ?_, fun x hx ha hg => ?_⟩
      · exact eab.1 x hx hb ((ih x c b (by omega)).2.1 hg hc)
      · exact ((gv_eq A B c 0 0).mp hc).1 x hx hb ((ih a x b (by omega)).2.2 hg hab)
      · exact eab.2.2 x hx ha ((ih a c x (by omega)).2.1 hg hc)
    · have es := (gv_eq B A a c b).mp hs
      rw [gv_eq B A a 0 b]
      refine ⟨fun x hx ha hg => ?_, fun x hx => absurd hx (Nat.not_lt_zero x), fun x hx hb hg => ?_⟩
      · exact es.1 x hx ha ((ih x c b (by omega)).1 hg hc)
      · exact es.2.2 x hx hb ((ih a c x (by omega)).1 hg hc)
    · have es := (gv_eq B A a c b).mp hs
      rw [gv_eq B A c 0 0]
      refine ⟨fun x hx ha hg => ?_, fun x hx => absurd hx (Nat.not_lt_zero x), fun x hx => absurd hx (Nat.not_lt_zero x)⟩
      exact es.2.1 x hx ha ((ih a x b (by omega)).1 hab hg)
/-- a ≥ b, c ≥ 0: a + c ≥ b -/
theorem gv_sumA {A B : Nat → Nat → Prop} {a c b : Nat} (h1 : gv_G A B a 0 b) (h2 : gv_G A B c 0 0) : gv_G A B a c b := (gv_sum_n A B _ a c b (Nat.lt_succ_self _)).1 h1 h2
/-- a + c ≤ b, c ≥ 0: a ≤ b -/
theorem gv_sumB {A B : Nat → Nat → Prop} {a c b : Nat} (h1 : gv_G B A a c b) (h2 : gv_G A B c 0 0) : gv_G B A a 0 b := (gv_sum_n A B _ a c b (Nat.lt_succ_self _)).2.1 h1 h2
/-- a + c ≤ b, a ≥ b: c ≤ 0 -/
theorem gv_sumC {A B : Nat → Nat → Prop} {a c b : Nat} (h1 : gv_G B A a c b) (h2 : gv_G A B a 0 b) : gv_G B A c 0 0 := (gv_sum_n A B _ a c b (Nat.lt_succ_self _)).2.2 h1 h2
/-- only the moves of positions below n matter to positions below n -/
theorem gv_cong_n (n : Nat) : ∀ N (A B A' B' : Nat → Nat → Prop), (∀ p x, p < n → (A p x ↔ A' p x) ∧ (B p x ↔ B' p x)) → ∀ p q r, p < n → q < n → r < n → p + q + r < N → (gv_G A B p q r ↔ gv_G A' B' p q r) := by
  intro N
  induction N with
  | zero => intro A B A' B' _ p q r _ _ _ h; exact absurd h (Nat.not_lt_zero _)
  | succ N ih =>
    intro A B A' B' hc p q r hp hq hr h
    have ih' := ih B A B' A' (fun p x hp => ⟨(hc p x hp).2, (hc p x hp).1⟩)
    rw [gv_eq A B p q r, gv_eq A' B' p q r]
    constructor
    · intro ⟨h1, h2, h3⟩
      exact ⟨fun x hx hb hg => h1 x hx ((hc p x hp).2.mpr hb) ((ih' x q r (by omega) hq hr (by omega)).mpr hg), fun x hx hb hg => h2 x hx ((hc q x hq).2.mpr hb) ((ih' p x r hp (by omega) hr (by omega)).mpr hg), fun x hx ha hg => h3 x hx ((hc r x hr).1.mpr ha) ((ih' p q x hp hq (by omega) (by omega)).mpr hg)⟩
    · intro ⟨h1, h2, h3⟩
      exact ⟨fun x hx hb hg => h1 x hx ((hc p x hp).2.mp hb) ((ih' x q r (by omega) hq hr (by omega)).mp hg), fun x hx hb hg => h2 x hx ((hc q x hq).2.mp hb) ((ih' p x r hp (by omega) hr (by omega)).mp hg), fun x hx ha hg => h3 x hx ((hc r x hr).1.mp ha) ((ih' p q x hp hq (by omega) (by omega)).mp hg)⟩
theorem gv_cong {n : Nat} {A B A' B' : Nat → Nat → Prop} (hc : ∀ p x, p < n → (A p x ↔ A' p x) ∧ (B p x ↔ B' p x)) {p q r : Nat} (hp : p < n) (hq : q < n) (hr : r < n) : gv_G A B p q r ↔ gv_G A' B' p q r := gv_cong_n n _ A B A' B' hc p q r hp hq hr (Nat.lt_succ_self _)
/-- y beats x: y is at least x, and it is the earlier one or x isn't at least y -/
def gv_b (A B : Nat → Nat → Prop) (y x : Nat) : Prop := gv_G A B y 0 x ∧ (y < x ∨ ¬ gv_G A B x 0 y)
theorem gv_b_ir {A B : Nat → Nat → Prop} (x : Nat) : ¬ gv_b A B x x := fun h => h.2.elim (fun z => absurd z (Nat.lt_irrefl x)) (fun z => z (gv_refl A B x))
theorem gv_b_tr {A B : Nat → Nat → Prop} {x y z : Nat} (h1 : gv_b A B z y) (h2 : gv_b A B y x) : gv_b A B z x := by
  refine ⟨gv_trans h1.1 h2.1, ?_⟩
  by_cases hxz : gv_G A B x 0 z
  · left
    have hyz : gv_G A B y 0 z := gv_trans h2.1 hxz
    have hxy : gv_G A B x 0 y := gv_trans hxz h1.1
    have e1 : z < y := h1.2.elim id (fun t => absurd hyz t)
    have e2 : y < x := h2.2.elim id (fun t => absurd hxy t)
    exact Nat.lt_trans e1 e2
  · exact Or.inr hxz
theorem gv_top (S : Nat → Prop) (A B : Nat → Nat → Prop) (x : Nat) (hx : S x) : ∀ m : Nat, ∃ y, S y ∧ (y = x ∨ gv_b A B y x) ∧ ∀ z, z < m → S z → ¬ gv_b A B z y := by
  intro m
  induction m with
  | zero => exact ⟨x, hx, Or.inl rfl, fun z hz => absurd hz (Nat.not_lt_zero z)⟩
  | succ m ih =>
    obtain ⟨y, h1, h2, h3⟩ := ih
    by_cases hm : S m ∧ gv_b A B m y
    · refine ⟨m, hm.1, Or.inr (h2.elim (fun e => e ▸ hm.2) (fun t => gv_b_tr hm.2 t)), fun z hz hs hb => ?_⟩
      rcases Nat.lt_or_ge z m with e | e
      · exact h3 z e hs (gv_b_tr hb hm.2)
      · have e2 : z = m := by omega
        rw [e2] at hb
        exact gv_b_ir m hb
    · refine ⟨y, h1, h2, fun z hz hs hb => ?_⟩
      rcases Nat.lt_or_ge z m with e | e
      · exact h3 z e hs hb
      · have e2 : z = m := by omega
        rw [e2] at hb hs
        exact hm ⟨hs, hb⟩
/-- what the class calls dominated among the moves S, below n -/
def gv_D (n : Nat) (S : Nat → Prop) (A B : Nat → Nat → Prop) (x : Nat) : Prop := ∃ y, y < n ∧ x ≠ y ∧ S x ∧ S y ∧ gv_b A B y x
theorem gv_D_top {n : Nat} {S : Nat → Prop} {A B : Nat → Nat → Prop} {x : Nat} (hx : S x) : ∃ y, S y ∧ ¬ gv_D n S A B y ∧ gv_G A B y 0 x := by
  obtain ⟨y, h1, h2, h3⟩ := gv_top S A B x hx n
  refine ⟨y, h1, fun h => ?_, h2.elim (fun e => e ▸ gv_refl A B y) (fun t => t.1)⟩
  obtain ⟨z, hz, _, _, hs, hb⟩ := h
  exact h3 z hz hs hb
/-- a position less dominated moves of Left's has the same value -/
theorem gv_dom_eq {A B : Nat → Nat → Prop} {D : Nat → Prop} {g h : Nat} (hgh : g < h) (hA : ∀ x, A h x ↔ (A g x ∧ ¬ D x)) (hB : ∀ x, B h x ↔ B g x) (hg : ∀ x, A g x → x < g) (hg' : ∀ x, B g x → x < g)
    (hD : ∀ x, A g x → ∃ y, A g y ∧ ¬ D y ∧ gv_G A B y 0 x) : gv_G A B g 0 h ∧ gv_G B A g 0 h := by
  constructor
  · rw [gv_eq A B g 0 h]
    refine ⟨fun x hx hb hg1 => ?_, fun x hx => absurd hx (Nat.not_lt_zero x), fun x hx ha hg1 => ?_⟩
    · exact ((gv_eq B A x 0 h).mp hg1).2.2 x (by omega) ((hB x).mpr hb) (gv_refl A B x)
    · have ha' := ((hA x).mp ha).1
      exact ((gv_eq B A g 0 x).mp hg1).1 x (hg x ha') ha' (gv_refl A B x)
  · rw [gv_eq B A g 0 h]
    refine ⟨fun x hx ha hg1 => ?_, fun x hx => absurd hx (Nat.not_lt_zero x), fun x hx hb hg1 => ?_⟩
    · obtain ⟨y, y1, y2, y3⟩ := hD x ha
      have := hg y y1
      exact ((gv_eq A B x 0 h).mp hg1).2.2 y (by omega) ((hA y).mpr ⟨y1, y2⟩) ((gv_sym A B x y).mpr y3)
    · have hb' := (hB x).mp hb
      exact ((gv_eq A B g 0 x).mp hg1).1 x (hg' x hb') hb' (gv_refl B A x)
/-- p and j are equal -/
def gv_E (A B : Nat → Nat → Prop) (p j : Nat) : Prop := gv_G A B p 0 j ∧ gv_G A B j 0 p
theorem gv_E_sw (A B : Nat → Nat → Prop) : gv_E B A = gv_E A B := by
  funext p j
  refine propext ⟨fun h => ⟨(gv_sym A B j p).mp h.2, (gv_sym A B p j).mp h.1⟩, fun h => ⟨(gv_sym A B p j).mpr h.2, (gv_sym A B j p).mpr h.1⟩⟩
/-- f is the first that equals p -/
def gv_F (E : Nat → Nat → Prop) (p f : Nat) : Prop := f ≤ p ∧ (f < p → E p f) ∧ ∀ j, j < f → ¬ E p j
theorem gv_F_uniq {E : Nat → Nat → Prop} {p f f' : Nat} (h : gv_F E p f) (h' : gv_F E p f') : f = f' := by
  obtain ⟨a1, a2, a3⟩ := h
  obtain ⟨b1, b2, b3⟩ := h'
  rcases Nat.lt_trichotomy f f' with e | e | e
  · exact absurd (a2 (by omega)) (b3 f e)
  · exact e
  · exact absurd (b2 (by omega)) (a3 f' e)
theorem gv_F_same {A B : Nat → Nat → Prop} {g h f f' : Nat} (hgh : g < h) (e1 : gv_G A B g 0 h) (e2 : gv_G A B h 0 g) (h1 : gv_F (gv_E A B) h f) (h2 : gv_F (gv_E A B) g f') : f = f' := by
  have t : ∀ j, gv_E A B h j ↔ gv_E A B g j := fun j => ⟨fun z => ⟨gv_trans e1 z.1, gv_trans z.2 e2⟩, fun z => ⟨gv_trans e2 z.1, gv_trans z.2 e1⟩⟩
  obtain ⟨a1, a2, a3⟩ := h1
  obtain ⟨b1, b2, b3⟩ := h2
  have fg : f ≤ g := by
    rcases Nat.lt_or_ge g f with e | e
    · exact absurd ⟨e2, e1⟩ (a3 g e)
    · exact e
  have hf : gv_E A B g f := (t f).mp (a2 (by omega))
  have hf' : gv_E A B g f' := by
    rcases Nat.lt_or_ge f' g with e | e
    · exact b2 e
    · have e3 : f' = g := by omega
      rw [e3]
      exact ⟨gv_refl A B g, gv_refl A B g⟩
  rcases Nat.lt_trichotomy f f' with e | e | e
  · exact absurd hf (b3 f e)
  · exact e
  · exact absurd ((t f').mpr hf') (a3 f' e)
end
section
/-! bits, answers, the picture of a state (gv_sl, gv_or, gv_and, gv_xor began as rows of the kit's BITS text) -/
theorem gv_sl : ∀ n, n < 32 → ((nI n &&& 31).toBitVec.smod 32).toNat = n := by decide +kernel
theorem gv_sh1 : ∀ n, n < 11 → (1 : Int32) <<< (nI n &&& 31) = nI (2 ^ n) := by decide +kernel
theorem gv_msk : ∀ n, n < 11 → (((1 : Int32) <<< (nI n &&& 31)) - 1).toBitVec.toNat = 2 ^ n - 1 := by decide +kernel
theorem gv_i16 : ∀ m, m < 1024 → (nI m).toInt16.toInt32 = nI m := by decide +kernel
theorem gv_p1024 {m p : Nat} (hp : p ≤ 10) (h : m < 2 ^ p) : m < 1024 := Nat.lt_of_lt_of_le h (Nat.pow_le_pow_right (n := 2) (by decide) hp)
theorem gv_or (a b : Nat) : nI a ||| nI b = nI (a ||| b) := by
  apply Int32.toBitVec_inj.1
  show BitVec.ofNat 32 a ||| BitVec.ofNat 32 b = BitVec.ofNat 32 (a ||| b)
  apply BitVec.eq_of_getLsbD_eq
  intro i hi
  simp [hi]
theorem gv_and (a b : Nat) : nI a &&& nI b = nI (a &&& b) := by
  apply Int32.toBitVec_inj.1
  show BitVec.ofNat 32 a &&& BitVec.ofNat 32 b = BitVec.ofNat 32 (a &&& b)
  apply BitVec.eq_of_getLsbD_eq
  intro i hi
  simp [hi]
theorem gv_xor (a b : Nat) : nI a ^^^ nI b = nI (a ^^^ b) := by
  apply Int32.toBitVec_inj.1
  show BitVec.ofNat 32 a ^^^ BitVec.ofNat 32 b = BitVec.ofNat 32 (a ^^^ b)
  apply BitVec.eq_of_getLsbD_eq
  intro i hi
  simp [hi]
theorem gv_lt {m p x : Nat} (h : m < 2 ^ p) (hb : m.testBit x = true) : x < p := by
  rcases Nat.lt_or_ge x p with e | e
  · exact e
  · rw [Nat.testBit_lt_two_pow (Nat.lt_of_lt_of_le h (Nat.pow_le_pow_right (by decide) e))] at hb
    exact absurd hb (by decide)
theorem gv_bit0 {m x : Nat} (hm : m < 2 ^ 31) (hx : x < 32) : ((nI m >>> (nI x &&& 31)) &&& 1) = nI (m / 2 ^ x % 2) := by
  have h2 : m / 2 ^ x ≤ m := Nat.div_le_self _ _
  rw [pk_shrN hm _ x (gv_sl x hx), pk_andN (Nat.lt_of_le_of_lt h2 (by omega)) 1 (by decide)]
theorem gv_in {post : Int32 → Prop} {m x : Nat} (hm : m < 2 ^ 31) (hx : x < 32) (h1 : m.testBit x = true → post 1) (h0 : ¬ m.testBit x = true → post 0) : wpX_in post () (nI m) (nI x) := by
  have e := gv_bit0 hm hx
  have hlt : m / 2 ^ x % 2 < 2 := Nat.mod_lt _ (by decide)
  have hb : m.testBit x = decide (m / 2 ^ x % 2 = 1) := Nat.testBit_eq_decide_div_mod_eq
  unfold wpX_in
  rw [e]
  generalize m / 2 ^ x % 2 = t at hlt hb
  refine pk_eq t 0 (fun z => h0 (fun g => ?_)) (fun z => h1 ?_)
  · rw [hb] at g
    have := of_decide_eq_true g
    omega
  · rw [hb]
    exact decide_eq_true (by omega)
theorem gv_cell {post : Int32 → Prop} {p q s : Nat} (H : post (nI ((p * 10 + q) * 10 + s))) : wpX_cell post () (nI p) (nI q) (nI s) := by
  have e : ((nI p * 10) + nI q) * 10 + nI s = nI ((p * 10 + q) * 10 + s) := by
    show ((nI p * nI 10) + nI q) * nI 10 + nI s = _
    rw [pk_mul, nI_add, pk_mul, nI_add]
  unfold wpX_cell
  rw [e]
  exact H
theorem gv_nb {v : Int32} (h : v = 0 ∨ v = 1) : vp_nar .boolean v = v := by
  rcases h with rfl | rfl <;> rfl
theorem gv_nw {v : Int32} (h : v = 0 ∨ v = 1) : narrow .boolean (.int v) = .int v := by
  rcases h with rfl | rfl <;> rfl
noncomputable def gv_bit (P : Prop) : Int32 := @ite Int32 P (Classical.propDecidable P) 1 0
theorem gv_bit_t {P : Prop} (h : P) : gv_bit P = 1 := by unfold gv_bit; exact if_pos h
theorem gv_bit_f {P : Prop} (h : ¬ P) : gv_bit P = 0 := by unfold gv_bit; exact if_neg h
theorem gv_bit01 (P : Prop) : gv_bit P = 0 ∨ gv_bit P = 1 := by
  by_cases h : P
  · exact Or.inr (gv_bit_t h)
  · exact Or.inl (gv_bit_f h)
theorem gv_bit_c {P Q : Prop} (h : P ↔ Q) : gv_bit P = gv_bit Q := by rw [propext h]
noncomputable def gv_cmp (P Q : Prop) : Int32 := @ite Int32 P (Classical.propDecidable P) (@ite Int32 Q (Classical.propDecidable Q) 0 1) (@ite Int32 Q (Classical.propDecidable Q) 2 3)
theorem gv_cmp0 {P Q : Prop} (hp : P) (hq : Q) : gv_cmp P Q = 0 := by unfold gv_cmp; rw [if_pos hp, if_pos hq]
theorem gv_cmp1 {P Q : Prop} (hp : P) (hq : ¬ Q) : gv_cmp P Q = 1 := by unfold gv_cmp; rw [if_pos hp, if_neg hq]
theorem gv_cmp2 {P Q : Prop} (hp : ¬ P) (hq : Q) : gv_cmp P Q = 2 := by unfold gv_cmp; rw [if_neg hp, if_pos hq]
theorem gv_cmp3 {P Q : Prop} (hp : ¬ P) (hq : ¬ Q) : gv_cmp P Q = 3 := by unfold gv_cmp; rw [if_neg hp, if_neg hq]
theorem gv_cmp_is0 {P Q : Prop} : gv_cmp P Q = 0 ↔ (P ∧ Q) := by
  by_cases hp : P
  · by_cases hq : Q
    · exact ⟨fun _ => ⟨hp, hq⟩, fun _ => gv_cmp0 hp hq⟩
    · rw [gv_cmp1 hp hq]
      exact ⟨fun z => absurd z (by decide), fun z => absurd z.2 hq⟩
  · by_cases hq : Q
    · rw [gv_cmp2 hp hq]
      exact ⟨fun z => absurd z (by decide), fun z => absurd z.1 hp⟩
    · rw [gv_cmp3 hp hq]
      exact ⟨fun z => absurd z (by decide), fun z => absurd z.1 hp⟩
theorem gv_cmp_is1 {P Q : Prop} : gv_cmp P Q = 1 ↔ (P ∧ ¬ Q) := by
  by_cases hp : P
  · by_cases hq : Q
    · rw [gv_cmp0 hp hq]
      exact ⟨fun z => absurd z (by decide), fun z => absurd hq z.2⟩
    · exact ⟨fun _ => ⟨hp, hq⟩, fun _ => gv_cmp1 hp hq⟩
  · by_cases hq : Q
    · rw [gv_cmp2 hp hq]
      exact ⟨fun z => absurd z (by decide), fun z => absurd z.1 hp⟩
    · rw [gv_cmp3 hp hq]
      exact ⟨fun z => absurd z (by decide), fun z => absurd z.1 hp⟩
theorem gv_turned {post : Int32 → Prop} {P Q : Prop} (H : post (gv_cmp Q P)) : wpL_turned post () (gv_cmp P Q) := by
  unfold wpL_turned
  by_cases hp : P
  · by_cases hq : Q
    · rw [gv_cmp0 hq hp] at H
      rw [gv_cmp0 hp hq]
      exact br_f (by decide) (br_f (by decide) H)
    · rw [gv_cmp2 hq hp] at H
      rw [gv_cmp1 hp hq]
      exact br_t rfl H
  · by_cases hq : Q
    · rw [gv_cmp1 hq hp] at H
      rw [gv_cmp2 hp hq]
      exact br_f (by decide) (br_t rfl H)
    · rw [gv_cmp3 hq hp] at H
      rw [gv_cmp3 hp hq]
      exact br_f (by decide) (br_f (by decide) H)
/-! the picture -/
def gv_M (f : Nat → Nat) (p x : Nat) : Prop := (f p).testBit x = true
/-- a table of the state holds P below n -/
def gv_T (a : Nat → Int32) (P : Nat → Nat → Nat → Prop) (n : Nat) : Prop := ∀ p q s, p < n → q < n → s < n → (¬ a ((p * 10 + q) * 10 + s) = 0 ↔ P p q s)
def gv_W (n : Nat) (l r : Nat → Nat) (a1 a2 : Nat → Int32) : Prop := 1 ≤ n ∧ n ≤ 10 ∧ ∀ p, p < n → l p < 2 ^ p ∧ r p < 2 ^ p ∧ a1 p = nI (l p) ∧ a2 p = nI (r p)
def gv_Z (a : Nat → Int32) : Prop := ∀ j, a j = 0 ∨ a j = 1
def gv_TT (n : Nat) (l r : Nat → Nat) (a3 a4 : Nat → Int32) : Prop := gv_T a3 (gv_G (gv_M l) (gv_M r)) n ∧ gv_T a4 (gv_G (gv_M r) (gv_M l)) n
/-- the state u matches the picture (n, l, r) -/
def gv_K (n : Nat) (l r : Nat → Nat) (u : St1) : Prop := u.1 = nI n ∧ gv_W n l r u.2.2.1 u.2.2.2.1 ∧ gv_Z u.2.2.2.2.1 ∧ gv_Z u.2.2.2.2.2 ∧ (¬ u.2.1 = 0 → gv_TT n l r u.2.2.2.2.1 u.2.2.2.2.2)
/-- .. and its tables are filled -/
def gv_J (n : Nat) (l r : Nat → Nat) (u : St1) : Prop := gv_K n l r u ∧ gv_TT n l r u.2.2.2.2.1 u.2.2.2.2.2
theorem gv_Zu {a : Nat → Int32} {c : Nat} {v : Int32} (h : gv_Z a) (hv : v = 0 ∨ v = 1) : gv_Z (upd a c v) := by
  intro j
  by_cases e : j = c
  · rw [e, pk_us]
    exact hv
  · rw [pk_un e]
    exact h j
theorem gv_has {post : Int32 → Prop} {n p : Nat} {k : Int32} {a1 a2 a3 a4 : Nat → Int32} (hp : p < n) (hn : n ≤ 10) (H : post 1) : wpX_has post (nI n, k, a1, a2, a3, a4) (nI p) :=
  br_f (nI_pos (by omega)) (br_f (nI_ge hp (by omega)) H)
/-- one of the three terms of a place of a table -/
theorem gv_term {A B : Prop} {a : Nat → Int32} {m x p q s : Nat} {t : Int32} (ht : t = nI m) (hm : m < 1024) (hx : x < 10) (hp : p < 10) (hq : q < 10) (hs : s < 10)
    (hB : (m.testBit x = true ∧ ¬ a ((p * 10 + q) * 10 + s) = 0) → B) (hA : ¬ (m.testBit x = true ∧ ¬ a ((p * 10 + q) * 10 + s) = 0) → A) :
    wpX_in (fun v => ((v = 0 → A) ∧ (¬ v = 0 → (wpX_cell (fun c => (vp_in c 1000 ∧ ((a c.toNatClampNeg = 0 → A) ∧ (¬ a c.toNatClampNeg = 0 → B)))) () (nI p) (nI q) (nI s))))) () t (nI x) := by
  subst ht
  refine gv_in (by omega) (by omega) (fun hb => ?_) (fun hb => ?_)
  · refine br_f (by decide) (gv_cell ?_)
    refine And.intro (pk_in ((p * 10 + q) * 10 + s) 1000 (by omega)) ?_
    rw [nI_clamp (by omega)]
    exact br_c (fun e => hA (fun t => t.2 e)) (fun e => hB ⟨hb, e⟩)
  · exact br_t rfl (hA (fun t => hb t.1))
end
section
/-! the walks of staysAbove and staysBelow (printed by gen_stays.py) -/
def gv_C (f g : Nat → Nat) (b : Nat → Int32) (p q s x : Nat) : Prop := ((f p).testBit x = true ∧ ¬ b ((x * 10 + q) * 10 + s) = 0) ∨ ((f q).testBit x = true ∧ ¬ b ((p * 10 + x) * 10 + s) = 0) ∨ ((g s).testBit x = true ∧ ¬ b ((p * 10 + q) * 10 + x) = 0)
theorem gv_ab118 {post J3 : Int32 → Prop} {x1 x2 x3 x4 x5 x6 z0 c k : Int32} {a1 a2 a3 a4 : Nat → Int32} {P1 P2 P3 : Prop} (h1 : ¬ x5 = 0 ↔ P1) (h2 : ¬ x6 = 0 ↔ P2) (h3 : ¬ z0 = 0 ↔ P3)
    (Ht : P1 ∨ P2 ∨ P3 → post 0) (Hf : ¬ (P1 ∨ P2 ∨ P3) → J3 (x4 + 1)) : wX_staysAbove_118 post J3 x1 x2 x3 x4 x5 x6 z0 c k a1 a2 a3 a4 :=
  br_c (fun e5 => br_c (fun e6 => br_c (fun ez => nm_e (Hf (fun t => t.elim (fun z => h1.mpr z e5) (fun t => t.elim (fun z => h2.mpr z e6) (fun z => h3.mpr z ez))))) (fun ez => Ht (Or.inr (Or.inr (h3.mp ez))))) (fun e6 => Ht (Or.inr (Or.inl (h2.mp e6))))) (fun e5 => Ht (Or.inl (h1.mp e5)))
theorem gv_ab82 {post J3 : Int32 → Prop} {x5 z0 c k : Int32} {a1 a2 a3 a4 : Nat → Int32} {P1 P2 : Prop} {p q s x m : Nat} (hm : a1 s = nI m) (hm2 : m < 1024) (hp : p < 10) (hq : q < 10) (hs : s < 10) (hx : x < 10) (h1 : ¬ x5 = 0 ↔ P1) (h2 : ¬ z0 = 0 ↔ P2)
    (Ht : P1 ∨ P2 ∨ (m.testBit x = true ∧ ¬ a4 ((p * 10 + q) * 10 + x) = 0) → post 0) (Hf : ¬ (P1 ∨ P2 ∨ (m.testBit x = true ∧ ¬ a4 ((p * 10 + q) * 10 + x) = 0)) → J3 (nI x + 1)) :
    wX_staysAbove_82 post J3 (nI p) (nI q) (nI s) (nI x) x5 z0 c k a1 a2 a3 a4 := by
  unfold wX_staysAbove_82
  refine And.intro (pk_in s 10 hs) (gv_term (m := m) (by rw [nI_clamp (by omega)]; exact hm) hm2 hx hp hq hx (fun h => ?_) (fun h => ?_))
  · exact gv_ab118 h1 h2 ⟨fun _ => h, fun _ => by decide⟩ Ht Hf
  · unfold wX_staysAbove_117
    exact gv_ab118 h1 h2 ⟨fun z => absurd rfl z, fun z => absurd z h⟩ Ht Hf
theorem gv_ab46 {post J3 : Int32 → Prop} {z0 c k : Int32} {a1 a2 a3 a4 : Nat → Int32} {P1 : Prop} {p q s x m m2 : Nat} (hm : a1 s = nI m) (hm2 : m < 1024) (hn : a2 q = nI m2) (hn2 : m2 < 1024) (hp : p < 10) (hq : q < 10) (hs : s < 10) (hx : x < 10) (h1 : ¬ z0 = 0 ↔ P1)
    (Ht : P1 ∨ (m2.testBit x = true ∧ ¬ a4 ((p * 10 + x) * 10 + s) = 0) ∨ (m.testBit x = true ∧ ¬ a4 ((p * 10 + q) * 10 + x) = 0) → post 0) (Hf : ¬ (P1 ∨ (m2.testBit x = true ∧ ¬ a4 ((p * 10 + x) * 10 + s) = 0) ∨ (m.testBit x = true ∧ ¬ a4 ((p * 10 + q) * 10 + x) = 0)) → J3 (nI x + 1)) :
    wX_staysAbove_46 post J3 (nI p) (nI q) (nI s) (nI x) z0 c k a1 a2 a3 a4 := by
  unfold wX_staysAbove_46
  refine And.intro (pk_in q 10 hq) (gv_term (m := m2) (by rw [nI_clamp (by omega)]; exact hn) hn2 hx hp hx hs (fun h => ?_) (fun h => ?_))
  · exact gv_ab82 hm hm2 hp hq hs hx h1 ⟨fun _ => h, fun _ => by decide⟩ Ht Hf
  · unfold wX_staysAbove_81
    exact gv_ab82 hm hm2 hp hq hs hx h1 ⟨fun z => absurd rfl z, fun z => absurd z h⟩ Ht Hf
theorem gv_ab {post : Int32 → Prop} {n : Nat} {l r : Nat → Nat} {k : Int32} {a1 a2 a3 a4 : Nat → Int32} {p q s : Nat} (hW : gv_W n l r a1 a2) (hp : p < n) (hq : q < n) (hs : s < n)
    (H : ∀ v, (v = 0 ∨ v = 1) → (¬ v = 0 ↔ ∀ x, x < n → ¬ gv_C r l a4 p q s x) → post v) : wpX_staysAbove post (nI n, k, a1, a2, a3, a4) (nI p) (nI q) (nI s) := by
  obtain ⟨hn1, hn, hw⟩ := hW
  have fp : a2 p = nI (r p) := (hw p hp).2.2.2
  have fq : a2 q = nI (r q) := (hw q hq).2.2.2
  have gs : a1 s = nI (l s) := (hw s hs).2.2.1
  have fp2 : r p < 1024 := gv_p1024 (p := p) (by omega) (hw p hp).2.1
  have fq2 : r q < 1024 := gv_p1024 (p := q) (by omega) (hw q hq).2.1
  have gs2 : l s < 1024 := gv_p1024 (p := s) (by omega) (hw s hs).1
  unfold wpX_staysAbove
  refine pk_loop (σ := Unit) (fun f i _ => wX_staysAbove_3 post (nI p) (nI q) (nI s) (nI n) k a1 a2 a3 a4 f (nI i)) (fun i _ => ∀ x, x < i → ¬ gv_C r l a4 p q s x) n 0 () (Nat.zero_le _) (fun x hx => absurd hx (Nat.not_lt_zero x)) ?_ ?_
  · intro f _ h
    exact pk_le n n (fun _ => H 1 (Or.inr rfl) ⟨fun _ => h, fun _ => by decide⟩) (fun z => absurd z (by omega))
  · intro f i _ hi h hw'
    refine pk_le n i (fun z => absurd z (by omega)) (fun _ => ?_)
    have Ht : gv_C r l a4 p q s i → post 0 := fun hc => H 0 (Or.inl rfl) ⟨fun z => absurd rfl z, fun z => absurd hc (z i hi)⟩
    have Hf : ¬ gv_C r l a4 p q s i → wX_staysAbove_3 post (nI p) (nI q) (nI s) (nI n) k a1 a2 a3 a4 f (nI i + 1) := fun hc => by
      rw [nI_1]
      exact hw' () (lt_s h hc)
    refine And.intro (pk_in p 10 (by omega)) (gv_term (m := r p) (by rw [nI_clamp (by omega)]; exact fp) fp2 (by omega) (by omega) (by omega) (by omega) (fun h => ?_) (fun h => ?_))
    · exact gv_ab46 gs gs2 fq fq2 (by omega) (by omega) (by omega) (by omega) ⟨fun _ => h, fun _ => by decide⟩ Ht Hf
    · unfold wX_staysAbove_45
      exact gv_ab46 gs gs2 fq fq2 (by omega) (by omega) (by omega) (by omega) ⟨fun z => absurd rfl z, fun z => absurd z h⟩ Ht Hf

theorem gv_be118 {post J3 : Int32 → Prop} {x1 x2 x3 x4 x5 x6 z0 c k : Int32} {a1 a2 a3 a4 : Nat → Int32} {P1 P2 P3 : Prop} (h1 : ¬ x5 = 0 ↔ P1) (h2 : ¬ x6 = 0 ↔ P2) (h3 : ¬ z0 = 0 ↔ P3)
    (Ht : P1 ∨ P2 ∨ P3 → post 0) (Hf : ¬ (P1 ∨ P2 ∨ P3) → J3 (x4 + 1)) : wX_staysBelow_118 post J3 x1 x2 x3 x4 x5 x6 z0 c k a1 a2 a3 a4 :=
  br_c (fun e5 => br_c (fun e6 => br_c (fun ez => nm_e (Hf (fun t => t.elim (fun z => h1.mpr z e5) (fun t => t.elim (fun z => h2.mpr z e6) (fun z => h3.mpr z ez))))) (fun ez => Ht (Or.inr (Or.inr (h3.mp ez))))) (fun e6 => Ht (Or.inr (Or.inl (h2.mp e6))))) (fun e5 => Ht (Or.inl (h1.mp e5)))
theorem gv_be82 {post J3 : Int32 → Prop} {x5 z0 c k : Int32} {a1 a2 a3 a4 : Nat → Int32} {P1 P2 : Prop} {p q s x m : Nat} (hm : a2 s = nI m) (hm2 : m < 1024) (hp : p < 10) (hq : q < 10) (hs : s < 10) (hx : x < 10) (h1 : ¬ x5 = 0 ↔ P1) (h2 : ¬ z0 = 0 ↔ P2)
    (Ht : P1 ∨ P2 ∨ (m.testBit x = true ∧ ¬ a3 ((p * 10 + q) * 10 + x) = 0) → post 0) (Hf : ¬ (P1 ∨ P2 ∨ (m.testBit x = true ∧ ¬ a3 ((p * 10 + q) * 10 + x) = 0)) → J3 (nI x + 1)) :
    wX_staysBelow_82 post J3 (nI p) (nI q) (nI s) (nI x) x5 z0 c k a1 a2 a3 a4 := by
  unfold wX_staysBelow_82
  refine And.intro (pk_in s 10 hs) (gv_term (m := m) (by rw [nI_clamp (by omega)]; exact hm) hm2 hx hp hq hx (fun h => ?_) (fun h => ?_))
  · exact gv_be118 h1 h2 ⟨fun _ => h, fun _ => by decide⟩ Ht Hf
  · unfold wX_staysBelow_117
    exact gv_be118 h1 h2 ⟨fun z => absurd rfl z, fun z => absurd z h⟩ Ht Hf
theorem gv_be46 {post J3 : Int32 → Prop} {z0 c k : Int32} {a1 a2 a3 a4 : Nat → Int32} {P1 : Prop} {p q s x m m2 : Nat} (hm : a2 s = nI m) (hm2 : m < 1024) (hn : a1 q = nI m2) (hn2 : m2 < 1024) (hp : p < 10) (hq : q < 10) (hs : s < 10) (hx : x < 10) (h1 : ¬ z0 = 0 ↔ P1)
    (Ht : P1 ∨ (m2.testBit x = true ∧ ¬ a3 ((p * 10 + x) * 10 + s) = 0) ∨ (m.testBit x = true ∧ ¬ a3 ((p * 10 + q) * 10 + x) = 0) → post 0) (Hf : ¬ (P1 ∨ (m2.testBit x = true ∧ ¬ a3 ((p * 10 + x) * 10 + s) = 0) ∨ (m.testBit x = true ∧ ¬ a3 ((p * 10 + q) * 10 + x) = 0)) → J3 (nI x + 1)) :
    wX_staysBelow_46 post J3 (nI p) (nI q) (nI s) (nI x) z0 c k a1 a2 a3 a4 := by
  unfold wX_staysBelow_46
  refine And.intro (pk_in q 10 hq) (gv_term (m := m2) (by rw [nI_clamp (by omega)]; exact hn) hn2 hx hp hx hs (fun h => ?_) (fun h => ?_))
  · exact gv_be82 hm hm2 hp hq hs hx h1 ⟨fun _ => h, fun _ => by decide⟩ Ht Hf
  · unfold wX_staysBelow_81
    exact gv_be82 hm hm2 hp hq hs hx h1 ⟨fun z => absurd rfl z, fun z => absurd z h⟩ Ht Hf
theorem gv_be {post : Int32 → Prop} {n : Nat} {l r : Nat → Nat} {k : Int32} {a1 a2 a3 a4 : Nat → Int32} {p q s : Nat} (hW : gv_W n l r a1 a2) (hp : p < n) (hq : q < n) (hs : s < n)
    (H : ∀ v, (v = 0 ∨ v = 1) → (¬ v = 0 ↔ ∀ x, x < n → ¬ gv_C l r a3 p q s x) → post v) : wpX_staysBelow post (nI n, k, a1, a2, a3, a4) (nI p) (nI q) (nI s) := by
  obtain ⟨hn1, hn, hw⟩ := hW
  have fp : a1 p = nI (l p) := (hw p hp).2.2.1
  have fq : a1 q = nI (l q) := (hw q hq).2.2.1
  have gs : a2 s = nI (r s) := (hw s hs).2.2.2
  have fp2 : l p < 1024 := gv_p1024 (p := p) (by omega) (hw p hp).1
  have fq2 : l q < 1024 := gv_p1024 (p := q) (by omega) (hw q hq).1
  have gs2 : r s < 1024 := gv_p1024 (p := s) (by omega) (hw s hs).2.1
  unfold wpX_staysBelow
  refine pk_loop (σ := Unit) (fun f i _ => wX_staysBelow_3 post (nI p) (nI q) (nI s) (nI n) k a1 a2 a3 a4 f (nI i)) (fun i _ => ∀ x, x < i → ¬ gv_C l r a3 p q s x) n 0 () (Nat.zero_le _) (fun x hx => absurd hx (Nat.not_lt_zero x)) ?_ ?_
  · intro f _ h
    exact pk_le n n (fun _ => H 1 (Or.inr rfl) ⟨fun _ => h, fun _ => by decide⟩) (fun z => absurd z (by omega))
  · intro f i _ hi h hw'
    refine pk_le n i (fun z => absurd z (by omega)) (fun _ => ?_)
    have Ht : gv_C l r a3 p q s i → post 0 := fun hc => H 0 (Or.inl rfl) ⟨fun z => absurd rfl z, fun z => absurd hc (z i hi)⟩
    have Hf : ¬ gv_C l r a3 p q s i → wX_staysBelow_3 post (nI p) (nI q) (nI s) (nI n) k a1 a2 a3 a4 f (nI i + 1) := fun hc => by
      rw [nI_1]
      exact hw' () (lt_s h hc)
    refine And.intro (pk_in p 10 (by omega)) (gv_term (m := l p) (by rw [nI_clamp (by omega)]; exact fp) fp2 (by omega) (by omega) (by omega) (by omega) (fun h => ?_) (fun h => ?_))
    · exact gv_be46 gs gs2 fq fq2 (by omega) (by omega) (by omega) (by omega) ⟨fun _ => h, fun _ => by decide⟩ Ht Hf
    · unfold wX_staysBelow_45
      exact gv_be46 gs gs2 fq fq2 (by omega) (by omega) (by omega) (by omega) ⟨fun z => absurd rfl z, fun z => absurd z h⟩ Ht Hf
end
section
/-! learn: the tables, in the order of their numbers -/
theorem gv_mlt {a b n : Nat} (h : a < b) (hn : 0 < n) : a * n < b * n := by
  have t : (a + 1) * n ≤ b * n := Nat.mul_le_mul_right n h
  rw [Nat.add_mul, Nat.one_mul] at t
  omega
theorem gv_split {n i : Nat} (hn : 0 < n) (hi : i < n * n * n) : ∃ p q s, p < n ∧ q < n ∧ s < n ∧ i / (n * n) = p ∧ i / n % n = q ∧ i % n = s ∧ (p * n + q) * n + s = i := by
  refine ⟨i / (n * n), i / n % n, i % n, Nat.div_lt_of_lt_mul hi, Nat.mod_lt _ hn, Nat.mod_lt _ hn, rfl, rfl, rfl, ?_⟩
  have e1 := Nat.div_add_mod i n
  have e2 := Nat.div_add_mod (i / n) n
  rw [Nat.div_div_eq_div_mul, Nat.mul_comm n (i / (n * n))] at e2
  rw [e2, Nat.mul_comm (i / n) n]
  exact e1
theorem gv_dm {n a b a' b' : Nat} (hb : b < n) (hb' : b' < n) (e : a * n + b = a' * n + b') : a = a' ∧ b = b' := by
  have d : ∀ a b, b < n → (a * n + b) / n = a := by
    intro a b h
    rw [Nat.mul_comm a n, Nat.mul_add_div (by omega), Nat.div_eq_of_lt h, Nat.add_zero]
  have e1 := d a b hb
  rw [e, d a' b' hb'] at e1
  refine ⟨e1.symm, ?_⟩
  rw [e1] at e
  omega
theorem gv_ixlt {n p q s : Nat} (hp : p < n) (hq : q < n) (hs : s < n) : (p * n + q) * n + s < n * n * n := by
  have h1 : p * n + n ≤ n * n := by
    have t : (p + 1) * n ≤ n * n := Nat.mul_le_mul_right n hp
    rw [Nat.add_mul, Nat.one_mul] at t
    exact t
  have h2 : (p * n + q + 1) * n ≤ (n * n) * n := Nat.mul_le_mul_right n (by omega)
  rw [Nat.add_mul, Nat.one_mul] at h2
  omega
theorem gv_row {l r : Nat → Nat} {n p q s : Nat} {b : Nat → Int32} (hp : p < n) (hq : q < n) (hs : s < n) (wp : r p < 2 ^ p) (wq : r q < 2 ^ q) (ws : l s < 2 ^ s)
    (h1 : ∀ x, x < p → (¬ b ((x * 10 + q) * 10 + s) = 0 ↔ gv_G (gv_M r) (gv_M l) x q s))
    (h2 : ∀ x, x < q → (¬ b ((p * 10 + x) * 10 + s) = 0 ↔ gv_G (gv_M r) (gv_M l) p x s))
    (h3 : ∀ x, x < s → (¬ b ((p * 10 + q) * 10 + x) = 0 ↔ gv_G (gv_M r) (gv_M l) p q x)) :
    (∀ x, x < n → ¬ gv_C r l b p q s x) ↔ gv_G (gv_M l) (gv_M r) p q s := by
  rw [gv_eq (gv_M l) (gv_M r) p q s]
  constructor
  · intro h
    exact ⟨fun x hx hb hg => h x (by omega) (Or.inl ⟨hb, (h1 x hx).mpr hg⟩), fun x hx hb hg => h x (by omega) (Or.inr (Or.inl ⟨hb, (h2 x hx).mpr hg⟩)), fun x hx hb hg => h x (by omega) (Or.inr (Or.inr ⟨hb, (h3 x hx).mpr hg⟩))⟩
  · intro ⟨g1, g2, g3⟩ x hx hc
    rcases hc with ⟨hb, ht⟩ | ⟨hb, ht⟩ | ⟨hb, ht⟩
    · have e := gv_lt wp hb
      exact g1 x e hb ((h1 x e).mp ht)
    · have e := gv_lt wq hb
      exact g2 x e hb ((h2 x e).mp ht)
    · have e := gv_lt ws hb
      exact g3 x e hb ((h3 x e).mp ht)
/-- all places with a number below i are right -/
def gv_I (n : Nat) (l r : Nat → Nat) (i : Nat) (b3 b4 : Nat → Int32) : Prop := gv_Z b3 ∧ gv_Z b4 ∧ ∀ p q s, p < n → q < n → s < n → (p * n + q) * n + s < i →
  (¬ b3 ((p * 10 + q) * 10 + s) = 0 ↔ gv_G (gv_M l) (gv_M r) p q s) ∧ (¬ b4 ((p * 10 + q) * 10 + s) = 0 ↔ gv_G (gv_M r) (gv_M l) p q s)
theorem gv_learn_step {n : Nat} {l r : Nat → Nat} {a1 a2 b3 b4 : Nat → Int32} {p q s i : Nat} {v3 v4 : Int32} (hW : gv_W n l r a1 a2) (h : gv_I n l r i b3 b4) (hp : p < n) (hq : q < n) (hs : s < n) (hi : (p * n + q) * n + s = i)
    (z3 : v3 = 0 ∨ v3 = 1) (z4 : v4 = 0 ∨ v4 = 1) (h3 : ¬ v3 = 0 ↔ ∀ x, x < n → ¬ gv_C r l b4 p q s x) (h4 : ¬ v4 = 0 ↔ ∀ x, x < n → ¬ gv_C l r (upd b3 ((p * 10 + q) * 10 + s) v3) p q s x) :
    gv_I n l r (i + 1) (upd b3 ((p * 10 + q) * 10 + s) v3) (upd b4 ((p * 10 + q) * 10 + s) v4) := by
  obtain ⟨hn1, hn, hw⟩ := hW
  obtain ⟨i3, i4, ii⟩ := h
  have o1 : ∀ x, x < p → (x * n + q) * n + s < i := fun x hx => by
    have t1 : x * n < p * n := gv_mlt hx (by omega)
    have t2 : (x * n + q) * n < (p * n + q) * n := gv_mlt (by omega) (by omega)
    omega
  have o2 : ∀ x, x < q → (p * n + x) * n + s < i := fun x hx => by
    have t2 : (p * n + x) * n < (p * n + q) * n := gv_mlt (by omega) (by omega)
    omega
  have o3 : ∀ x, x < s → (p * n + q) * n + x < i := fun x hx => by omega
  have g3 : ¬ v3 = 0 ↔ gv_G (gv_M l) (gv_M r) p q s := h3.trans (gv_row hp hq hs (hw p hp).2.1 (hw q hq).2.1 (hw s hs).1
    (fun x hx => (ii x q s (by omega) hq hs (o1 x hx)).2) (fun x hx => (ii p x s hp (by omega) hs (o2 x hx)).2) (fun x hx => (ii p q x hp hq (by omega) (o3 x hx)).2))
  have g4 : ¬ v4 = 0 ↔ gv_G (gv_M r) (gv_M l) p q s := h4.trans (gv_row hp hq hs (hw p hp).1 (hw q hq).1 (hw s hs).2.1
    (fun x hx => by rw [pk_un (by omega)]; exact (ii x q s (by omega) hq hs (o1 x hx)).1) (fun x hx => by rw [pk_un (by omega)]; exact (ii p x s hp (by omega) hs (o2 x hx)).1) (fun x hx => by rw [pk_un (by omega)]; exact (ii p q x hp hq (by omega) (o3 x hx)).1))
  refine ⟨gv_Zu i3 z3, gv_Zu i4 z4, fun p' q' s' hp' hq' hs' hlt => ?_⟩
  by_cases e : p' = p ∧ q' = q ∧ s' = s
  · obtain ⟨rfl, rfl, rfl⟩ := e
    rw [pk_us, pk_us]
    exact ⟨g3, g4⟩
  · have ne : (p' * 10 + q') * 10 + s' ≠ (p * 10 + q) * 10 + s := fun t => e ⟨by omega, by omega, by omega⟩
    rw [pk_un ne, pk_un ne]
    refine ii p' q' s' hp' hq' hs' ?_
    have ni : (p' * n + q') * n + s' ≠ i := fun t => by
      rw [← hi] at t
      have t1 := gv_dm hs' hs t
      have t2 := gv_dm hq' hq t1.1
      exact e ⟨t2.1, t2.2, t1.2⟩
    omega
theorem gv_learn_loop {post : St1 → Prop} {n : Nat} {l r : Nat → Nat} {k : Int32} {a1 a2 a3 a4 : Nat → Int32} (hW : gv_W n l r a1 a2) (h3 : gv_Z a3) (h4 : gv_Z a4)
    (H : ∀ b3 b4, gv_Z b3 → gv_Z b4 → gv_TT n l r b3 b4 → post (nI n, k, a1, a2, b3, b4)) : ∃ f, wX_learn_15 post (nI n) k f 0 a1 a2 a3 a4 := by
  have hn1 : 1 ≤ n := hW.1
  have hn : n ≤ 10 := hW.2.1
  have hnn : n * n ≤ 10 * 10 := Nat.mul_le_mul hn hn
  have hN : n * n * n ≤ 10 * 10 * 10 := Nat.mul_le_mul hnn hn
  have hnp : 0 < n * n := Nat.mul_pos hn1 hn1
  have e3 : nI n * nI n * nI n = nI (n * n * n) := by rw [pk_mul, pk_mul]
  have ne : ¬ nI n = 0 := nI_ne0 (by omega) (by omega)
  have ne2 : ¬ nI n * nI n = 0 := by rw [pk_mul]; exact nI_ne0 hnp (by omega)
  refine pk_loop (σ := (Nat → Int32) × (Nat → Int32)) (fun f i s => wX_learn_15 post (nI n) k f (nI i) a1 a2 s.1 s.2) (fun i s => gv_I n l r i s.1 s.2) (n * n * n) 0 (a3, a4) (Nat.zero_le _) ⟨h3, h4, fun p q s _ _ _ h => absurd h (Nat.not_lt_zero _)⟩ ?_ ?_
  · intro f s h
    refine pk_le (n * n * n) (n * n * n) (fun _ => ?_) (fun z => absurd z (Nat.lt_irrefl _)) e3
    obtain ⟨i3, i4, ii⟩ := h
    exact H s.1 s.2 i3 i4 ⟨fun p q x hp hq hx => (ii p q x hp hq hx (gv_ixlt hp hq hx)).1, fun p q x hp hq hx => (ii p q x hp hq hx (gv_ixlt hp hq hx)).2⟩
  · intro f i st hi h hw
    obtain ⟨b3, b4⟩ := st
    obtain ⟨p, q, s, hp, hq, hs, ep, eq, es, ei⟩ := gv_split hn1 hi
    refine pk_le (n * n * n) i (fun z => absurd z (by omega)) (fun _ => ?_) e3
    refine And.intro ne2 (nm_r (e' := nI p) (by rw [pk_mul, pk_div (by omega) hnp (by omega), ep]) ?_)
    refine And.intro ne (And.intro ne (nm_r (e' := nI q) (by rw [pk_div (by omega) hn1 (by omega), pk_rem (Nat.lt_of_le_of_lt (Nat.div_le_self _ _) (by omega)) hn1 (by omega), eq]) ?_))
    refine And.intro ne (nm_r (e' := nI s) (by rw [pk_rem (by omega) hn1 (by omega), es]) ?_)
    refine gv_cell (gv_ab hW hp hq hs (fun v3 z3 c3 => ?_))
    refine And.intro (pk_in ((p * 10 + q) * 10 + s) 1000 (by omega)) (nm_r (e' := upd b3 ((p * 10 + q) * 10 + s) v3) (by rw [nI_clamp (by omega), gv_nb z3]) ?_)
    refine gv_be hW hp hq hs (fun v4 z4 c4 => ?_)
    refine And.intro (pk_in ((p * 10 + q) * 10 + s) 1000 (by omega)) (nm_r (e' := upd b4 ((p * 10 + q) * 10 + s) v4) (by rw [nI_clamp (by omega), gv_nb z4]) (nm_r (nI_1 i) ?_))
    exact hw (upd b3 ((p * 10 + q) * 10 + s) v3, upd b4 ((p * 10 + q) * 10 + s) v4) (gv_learn_step hW h hp hq hs ei z3 z4 c3 c4)
theorem gv_learn {post : St1 → Prop} {u : St1} {n : Nat} {l r : Nat → Nat} (hK : gv_K n l r u) (H : ∀ u', gv_J n l r u' → post u') : wpX_learn post u := by
  obtain ⟨c, k, a1, a2, a3, a4⟩ := u
  obtain rfl : c = nI n := hK.1
  refine br_c (fun hk => ?_) (fun hk => H _ ⟨hK, hK.2.2.2.2 hk⟩)
  exact gv_learn_loop hK.2.1 hK.2.2.1 hK.2.2.2.1 (fun b3 b4 z3 z4 t => H _ ⟨⟨rfl, hK.2.1, z3, z4, fun _ => t⟩, t⟩)
end
section
/-! the methods that ask -/
theorem gv_10 : ¬ (1 : Int32) = 0 := by decide
theorem gv_standing {post : Int32 → Prop} {n : Nat} {l r : Nat → Nat} {u : St1} {p q s : Nat} (hJ : gv_J n l r u) (hp : p < n) (hq : q < n) (hs : s < n)
    (H : post (gv_cmp (gv_G (gv_M l) (gv_M r) p q s) (gv_G (gv_M r) (gv_M l) p q s))) : wpX_standing post u (nI ((p * 10 + q) * 10 + s)) := by
  obtain ⟨c, k, a1, a2, a3, a4⟩ := u
  have hn : n ≤ 10 := hJ.1.2.1.2.1
  have t3 : ¬ a3 ((p * 10 + q) * 10 + s) = 0 ↔ gv_G (gv_M l) (gv_M r) p q s := hJ.2.1 p q s hp hq hs
  have t4 : ¬ a4 ((p * 10 + q) * 10 + s) = 0 ↔ gv_G (gv_M r) (gv_M l) p q s := hJ.2.2 p q s hp hq hs
  have hi : vp_in (nI ((p * 10 + q) * 10 + s)) 1000 := pk_in ((p * 10 + q) * 10 + s) 1000 (by omega)
  unfold wpX_standing
  dsimp only
  rw [nI_clamp (by omega)]
  refine And.intro hi (br_c (fun e3 => And.intro hi (br_c (fun e4 => ?_) (fun e4 => ?_))) (fun e3 => And.intro hi (br_c (fun e4 => ?_) (fun e4 => ?_))))
  · rw [gv_cmp3 (fun g => t3.mpr g e3) (fun g => t4.mpr g e4)] at H
    exact H
  · rw [gv_cmp2 (fun g => t3.mpr g e3) (t4.mp e4)] at H
    exact H
  · rw [gv_cmp1 (t3.mp e3) (fun g => t4.mpr g e4)] at H
    exact H
  · rw [gv_cmp0 (t3.mp e3) (t4.mp e4)] at H
    exact H
theorem gv_compareSum {post : Int32 → St1 → Prop} {n : Nat} {l r : Nat → Nat} {u : St1} {p q s : Nat} (hK : gv_K n l r u) (hp : p < n) (hq : q < n) (hs : s < n)
    (H : ∀ u', gv_K n l r u' → post (gv_cmp (gv_G (gv_M l) (gv_M r) p q s) (gv_G (gv_M r) (gv_M l) p q s)) u') : wpX_compareSum post u (nI p) (nI q) (nI s) := by
  obtain ⟨c, k, a1, a2, a3, a4⟩ := u
  obtain rfl : c = nI n := hK.1
  have hn : n ≤ 10 := hK.2.1.2.1
  unfold wpX_compareSum
  dsimp only
  refine gv_has hp hn (br_f gv_10 (gv_has hq hn (br_f gv_10 (gv_has hs hn (br_f gv_10 (gv_learn hK (fun u' hJ => ?_)))))))
  obtain ⟨c', k', b1, b2, b3, b4⟩ := u'
  exact gv_cell (gv_standing hJ hp hq hs (H _ hJ.1))
theorem gv_compare {post : Int32 → St1 → Prop} {n : Nat} {l r : Nat → Nat} {u : St1} {p q : Nat} (hK : gv_K n l r u) (hp : p < n) (hq : q < n)
    (H : ∀ u', gv_K n l r u' → post (gv_cmp (gv_G (gv_M l) (gv_M r) p 0 q) (gv_G (gv_M r) (gv_M l) p 0 q)) u') : wpX_compare post u (nI p) (nI q) := by
  have hn : 1 ≤ n := hK.2.1.1
  obtain ⟨c, k, a1, a2, a3, a4⟩ := u
  unfold wpX_compare
  refine gv_compareSum (q := 0) hK hp hn hq (fun u' h => ?_)
  obtain ⟨c', k', b1, b2, b3, b4⟩ := u'
  exact H _ h
theorem gv_opposite {post : Int32 → St1 → Prop} {n : Nat} {l r : Nat → Nat} {u : St1} {p q : Nat} (hK : gv_K n l r u) (hp : p < n) (hq : q < n)
    (H : ∀ u', gv_K n l r u' → post (gv_bit (gv_G (gv_M l) (gv_M r) p q 0 ∧ gv_G (gv_M r) (gv_M l) p q 0)) u') : wpX_opposite post u (nI p) (nI q) := by
  have hn : 1 ≤ n := hK.2.1.1
  obtain ⟨c, k, a1, a2, a3, a4⟩ := u
  unfold wpX_opposite
  refine gv_compareSum (s := 0) hK hp hq hn (fun u' h => ?_)
  obtain ⟨c', k', b1, b2, b3, b4⟩ := u'
  have H' := H _ h
  refine br_c (fun e => ?_) (fun e => ?_)
  · rw [gv_bit_t (gv_cmp_is0.mp e)] at H'
    exact H'
  · rw [gv_bit_f (fun g => e (gv_cmp_is0.mpr g))] at H'
    exact H'
theorem gv_atLeast {post : Int32 → St1 → Prop} {n : Nat} {l r : Nat → Nat} {u : St1} {p q : Nat} (hK : gv_K n l r u) (hp : p < n) (hq : q < n)
    (H : ∀ u', gv_K n l r u' → post (gv_bit (gv_G (gv_M l) (gv_M r) p 0 q)) u') : wpL_atLeast post u (nI p) (nI q) := by
  obtain ⟨c, k, a1, a2, a3, a4⟩ := u
  unfold wpL_atLeast
  refine gv_compare hK hp hq (fun u' h => ?_)
  obtain ⟨c', k', b1, b2, b3, b4⟩ := u'
  have H' := H _ h
  refine br_c (fun e => ?_) (fun e => br_c (fun e1 => ?_) (fun e1 => ?_))
  · rw [gv_bit_t (gv_cmp_is0.mp e).1] at H'
    exact H'
  · rw [gv_bit_t (gv_cmp_is1.mp e1).1] at H'
    exact H'
  · rw [gv_bit_f (fun g => ?_)] at H'
    · exact H'
    · by_cases h2 : gv_G (gv_M r) (gv_M l) p 0 q
      · exact e (gv_cmp_is0.mpr ⟨g, h2⟩)
      · exact e1 (gv_cmp_is1.mpr ⟨g, h2⟩)
/-- the moves of a side -/
def gv_l (sd : Nat) (l r : Nat → Nat) : Nat → Nat := if sd = 0 then l else r
theorem gv_l0 (l r : Nat → Nat) : gv_l 0 l r = l := rfl
theorem gv_l1 (l r : Nat → Nat) : gv_l 1 l r = r := rfl
theorem gv_l_sw {sd : Nat} (h : sd < 2) (l r : Nat → Nat) : gv_l (1 - sd) r l = gv_l sd l r := by
  rcases (by omega : sd = 0 ∨ sd = 1) with rfl | rfl <;> rfl
theorem gv_l_sw2 {sd : Nat} (h : sd < 2) (l r : Nat → Nat) : gv_l (1 - (1 - sd)) r l = gv_l (1 - sd) l r := by
  rcases (by omega : sd = 0 ∨ sd = 1) with rfl | rfl <;> rfl
theorem gv_wins27 {post : Int32 → St1 → Prop} {n : Nat} {l r : Nat → Nat} {c k : Int32} {a1 a2 a3 a4 : Nat → Int32} {p q sd : Nat} (hsd : sd < 2) (hK : gv_K n l r (c, k, a1, a2, a3, a4)) (hp : p < n) (hq : q < n)
    (H : ∀ u', gv_K n l r u' → post (gv_bit (¬ gv_G (gv_M (gv_l (1 - sd) l r)) (gv_M (gv_l sd l r)) p q 0)) u') : wX_winsSum_27 post (nI p) (nI q) (nI sd) c k a1 a2 a3 a4 := by
  have hn1 : 1 ≤ n := hK.2.1.1
  have hn : n ≤ 10 := hK.2.1.2.1
  unfold wX_winsSum_27
  refine gv_learn hK (fun u' hJ => ?_)
  obtain ⟨c', k', b1, b2, b3, b4⟩ := u'
  have t3 : ¬ b3 ((p * 10 + q) * 10 + 0) = 0 ↔ gv_G (gv_M l) (gv_M r) p q 0 := hJ.2.1 p q 0 hp hq hn1
  have t4 : ¬ b4 ((p * 10 + q) * 10 + 0) = 0 ↔ gv_G (gv_M r) (gv_M l) p q 0 := hJ.2.2 p q 0 hp hq hn1
  have H' := H _ hJ.1
  refine gv_cell (s := 0) ?_
  rcases (by omega : sd = 0 ∨ sd = 1) with rfl | rfl
  · refine br_t rfl (And.intro (pk_in ((p * 10 + q) * 10 + 0) 1000 (by omega)) ?_)
    rw [nI_clamp (by omega)]
    refine br_c (fun e => ?_) (fun e => ?_)
    · exact (gv_bit_t (show ¬ gv_G (gv_M r) (gv_M l) p q 0 from fun g => t4.mpr g e)) ▸ H'
    · rw [gv_bit_f (fun g => g (t4.mp e))] at H'
      exact H'
  · refine br_f (by decide) (And.intro (pk_in ((p * 10 + q) * 10 + 0) 1000 (by omega)) ?_)
    rw [nI_clamp (by omega)]
    refine br_c (fun e => ?_) (fun e => ?_)
    · exact (gv_bit_t (show ¬ gv_G (gv_M l) (gv_M r) p q 0 from fun g => t3.mpr g e)) ▸ H'
    · rw [gv_bit_f (fun g => g (t3.mp e))] at H'
      exact H'
theorem gv_winsSum {post : Int32 → St1 → Prop} {n : Nat} {l r : Nat → Nat} {u : St1} {p q sd : Nat} {y : Int32} (hy : y = nI sd) (hsd : sd < 2) (hK : gv_K n l r u) (hp : p < n) (hq : q < n)
    (H : ∀ u', gv_K n l r u' → post (gv_bit (¬ gv_G (gv_M (gv_l (1 - sd) l r)) (gv_M (gv_l sd l r)) p q 0)) u') : wpX_winsSum post u (nI p) (nI q) y := by
  subst hy
  obtain ⟨c, k, a1, a2, a3, a4⟩ := u
  obtain rfl : c = nI n := hK.1
  have hn : n ≤ 10 := hK.2.1.2.1
  unfold wpX_winsSum
  dsimp only
  refine gv_has hp hn (br_f gv_10 (gv_has hq hn (br_f gv_10 ?_)))
  refine br_c (fun _ => gv_wins27 hsd hK hp hq H) (fun e0 => br_c (fun _ => gv_wins27 hsd hK hp hq H) (fun e1 => ?_))
  rcases (by omega : sd = 0 ∨ sd = 1) with rfl | rfl
  · exact absurd rfl e0
  · exact absurd rfl e1
theorem gv_wins {post : Int32 → St1 → Prop} {n : Nat} {l r : Nat → Nat} {u : St1} {p sd : Nat} {y : Int32} (hy : y = nI sd) (hsd : sd < 2) (hK : gv_K n l r u) (hp : p < n)
    (H : ∀ u', gv_K n l r u' → post (gv_bit (¬ gv_G (gv_M (gv_l (1 - sd) l r)) (gv_M (gv_l sd l r)) p 0 0)) u') : wpX_wins post u (nI p) y := by
  have hn : 1 ≤ n := hK.2.1.1
  obtain ⟨c, k, a1, a2, a3, a4⟩ := u
  unfold wpX_wins
  refine gv_winsSum (q := 0) hy hsd hK hp hn (fun u' h => ?_)
  obtain ⟨c', k', b1, b2, b3, b4⟩ := u'
  exact And.intro (gv_nw (gv_bit01 _)) (H _ h)
theorem gv_moves {post : Int32 → Prop} {n : Nat} {l r : Nat → Nat} {u : St1} {p sd : Nat} {y : Int32} (hy : y = nI sd) (hsd : sd < 2) (hK : gv_K n l r u) (hp : p < n)
    (H : post (nI (gv_l sd l r p))) : wpX_moves post u (nI p) y := by
  subst hy
  obtain ⟨c, k, a1, a2, a3, a4⟩ := u
  obtain rfl : c = nI n := hK.1
  have hn : n ≤ 10 := hK.2.1.2.1
  have e1 : a1 p = nI (l p) := (hK.2.1.2.2 p hp).2.2.1
  have e2 : a2 p = nI (r p) := (hK.2.1.2.2 p hp).2.2.2
  have hin : vp_in (nI p) 10 := pk_in p 10 (by omega)
  have t : wX_moves_17 post (nI p) (nI sd) (nI n) k a1 a2 a3 a4 := by
    unfold wX_moves_17 wpX_movesOf
    dsimp only
    rw [nI_clamp (by omega), e1, e2]
    rcases (by omega : sd = 0 ∨ sd = 1) with rfl | rfl
    · exact br_t rfl (And.intro hin H)
    · exact br_f (by decide) (And.intro hin H)
  unfold wpX_moves
  dsimp only
  refine gv_has hp hn (br_f gv_10 ?_)
  refine br_c (fun _ => t) (fun e0 => br_c (fun _ => t) (fun e1 => ?_))
  rcases (by omega : sd = 0 ∨ sd = 1) with rfl | rfl
  · exact absurd rfl e0
  · exact absurd rfl e1
theorem gv_isAtLeast {post : Int32 → Prop} {n : Nat} {l r : Nat → Nat} {u : St1} {p q : Nat} (hJ : gv_J n l r u) (hp : p < n) (hq : q < n)
    (H : ∀ v, (v = 0 ∨ v = 1) → (¬ v = 0 ↔ gv_G (gv_M l) (gv_M r) p 0 q) → post v) : wpX_isAtLeast post u (nI p) (nI q) := by
  obtain ⟨c, k, a1, a2, a3, a4⟩ := u
  have hn1 : 1 ≤ n := hJ.1.2.1.1
  have hn : n ≤ 10 := hJ.1.2.1.2.1
  have t3 : ¬ a3 ((p * 10 + 0) * 10 + q) = 0 ↔ gv_G (gv_M l) (gv_M r) p 0 q := hJ.2.1 p 0 q hp hn1 hq
  have z3 : a3 ((p * 10 + 0) * 10 + q) = 0 ∨ a3 ((p * 10 + 0) * 10 + q) = 1 := hJ.1.2.2.1 _
  have e : nI p * 100 + nI q = nI ((p * 10 + 0) * 10 + q) := by
    show nI p * nI 100 + nI q = _
    rw [pk_mul, nI_add, show p * 100 + q = (p * 10 + 0) * 10 + q by omega]
  unfold wpX_isAtLeast
  dsimp only
  rw [e, nI_clamp (by omega)]
  exact And.intro (pk_in ((p * 10 + 0) * 10 + q) 1000 (by omega)) (And.intro (gv_nw z3) (H _ z3 t3))
theorem gv_asGood {post : Int32 → Prop} {n : Nat} {l r : Nat → Nat} {u : St1} {x y sd : Nat} (hsd : sd < 2) (hJ : gv_J n l r u) (hy : y < n) (hx : x < n)
    (H : ∀ v, (¬ v = 0 ↔ gv_G (gv_M (gv_l sd l r)) (gv_M (gv_l (1 - sd) l r)) y 0 x) → post v) : wpX_asGood post u (nI y) (nI x) (nI sd) := by
  obtain ⟨c, k, a1, a2, a3, a4⟩ := u
  rcases (by omega : sd = 0 ∨ sd = 1) with rfl | rfl
  · exact br_t rfl (gv_isAtLeast hJ hy hx (fun v z t => And.intro (gv_nw z) (H v t)))
  · exact br_f (by decide) (gv_isAtLeast hJ hx hy (fun v z t => And.intro (gv_nw z) (H v (t.trans (gv_sym (gv_M l) (gv_M r) y x).symm))))
/-! first, values -/
theorem gv_first {post : Int32 → St1 → Prop} {n : Nat} {l r : Nat → Nat} {u : St1} {p : Nat} (hK : gv_K n l r u) (hp : p < n)
    (H : ∀ f u', gv_F (gv_E (gv_M l) (gv_M r)) p f → gv_K n l r u' → post (nI f) u') : wpX_first post u (nI p) := by
  obtain ⟨c, k, a1, a2, a3, a4⟩ := u
  obtain rfl : c = nI n := hK.1
  have hn : n ≤ 10 := hK.2.1.2.1
  unfold wpX_first
  dsimp only
  refine gv_has hp hn (br_f gv_10 (gv_learn hK (fun u' hJ => ?_)))
  obtain ⟨c', k', b1, b2, b3, b4⟩ := u'
  refine pk_loop (σ := Unit) (fun f i _ => wX_first_16 post (nI p) c' k' b1 b2 b3 b4 f (nI i)) (fun i _ => ∀ j, j < i → ¬ gv_E (gv_M l) (gv_M r) p j) p 0 () (Nat.zero_le _) (fun j hj => absurd hj (Nat.not_lt_zero j)) ?_ ?_
  · intro f _ h
    exact pk_le p p (fun _ => H p _ ⟨Nat.le_refl p, fun z => absurd z (Nat.lt_irrefl p), h⟩ hJ.1) (fun z => absurd z (by omega))
  · intro f i _ hi h hw
    refine pk_le p i (fun z => absurd z (by omega)) (fun _ => ?_)
    refine gv_isAtLeast hJ hp (by omega) (fun v z t => br_c (fun e => nm_r (nI_1 i) (hw () (lt_s h (fun g => t.mpr g.1 e)))) (fun e => ?_))
    refine gv_isAtLeast hJ (by omega) hp (fun v2 z2 t2 => br_c (fun e2 => nm_r (nI_1 i) (hw () (lt_s h (fun g => t2.mpr g.2 e2)))) (fun e2 => ?_))
    exact H i _ ⟨by omega, fun _ => ⟨t.mp e, t2.mp e2⟩, h⟩ hJ.1
noncomputable def gv_cnt (E : Nat → Nat → Prop) : Nat → Nat
  | 0 => 0
  | i + 1 => gv_cnt E i + @ite Nat (∀ j, j < i → ¬ E i j) (Classical.propDecidable _) 1 0
theorem gv_cnt_t {E : Nat → Nat → Prop} {i : Nat} (h : ∀ j, j < i → ¬ E i j) : gv_cnt E (i + 1) = gv_cnt E i + 1 := by
  rw [gv_cnt, if_pos h]
theorem gv_cnt_f {E : Nat → Nat → Prop} {i : Nat} (h : ¬ ∀ j, j < i → ¬ E i j) : gv_cnt E (i + 1) = gv_cnt E i := by
  rw [gv_cnt, if_neg h]
  rfl
theorem gv_values {post : Int32 → St1 → Prop} {n : Nat} {l r : Nat → Nat} {u : St1} (hK : gv_K n l r u)
    (H : ∀ u', gv_K n l r u' → post (nI (gv_cnt (gv_E (gv_M l) (gv_M r)) n)) u') : wpX_values post u := by
  obtain ⟨c, k, a1, a2, a3, a4⟩ := u
  have hn : n ≤ 10 := hK.2.1.2.1
  refine pk_loop (σ := Int32 × St1) (fun f i s => wX_values_4 post f s.1 (nI i) s.2.1 s.2.2.1 s.2.2.2.1 s.2.2.2.2.1 s.2.2.2.2.2.1 s.2.2.2.2.2.2) (fun i s => s.1 = nI (gv_cnt (gv_E (gv_M l) (gv_M r)) i) ∧ gv_K n l r s.2) n 0 (0, (c, k, a1, a2, a3, a4)) (Nat.zero_le _) ⟨rfl, hK⟩ ?_ ?_
  · intro f s h
    obtain ⟨w, c, k, a1, a2, a3, a4⟩ := s
    obtain ⟨h1, h2⟩ := h
    obtain rfl : w = nI (gv_cnt (gv_E (gv_M l) (gv_M r)) n) := h1
    obtain rfl : c = nI n := h2.1
    exact pk_le n n (fun _ => H _ h2) (fun z => absurd z (by omega))
  · intro f i s hi h hw
    obtain ⟨w, c, k, a1, a2, a3, a4⟩ := s
    obtain ⟨h1, h2⟩ := h
    obtain rfl : w = nI (gv_cnt (gv_E (gv_M l) (gv_M r)) i) := h1
    obtain rfl : c = nI n := h2.1
    refine pk_le n i (fun z => absurd z (by omega)) (fun _ => ?_)
    refine gv_first h2 hi (fun g u' hf hu => ?_)
    obtain ⟨c', k', b1, b2, b3, b4⟩ := u'
    obtain ⟨f1, f2, f3⟩ := hf
    refine pk_eq g i (fun e => ?_) (fun e => ?_)
    · subst e
      exact nm_r (e' := nI (gv_cnt (gv_E (gv_M l) (gv_M r)) (g + 1))) (by rw [gv_cnt_t f3, nI_1]) (nm_r (nI_1 g) (hw (_, (c', k', b1, b2, b3, b4)) ⟨rfl, hu⟩))
    · have hne : ¬ ∀ j, j < i → ¬ gv_E (gv_M l) (gv_M r) i j := fun t => t g (by omega) (f2 (by omega))
      exact nm_r (e' := nI (gv_cnt (gv_E (gv_M l) (gv_M r)) (i + 1))) (by rw [gv_cnt_f hne]; exact nI_add _ 0) (nm_r (nI_1 i) (hw (_, (c', k', b1, b2, b3, b4)) ⟨rfl, hu⟩))
/-! depth -/
def gv_dq (f : Nat → Int32) (x : Int32) : Nat → Int32
  | 0 => 0
  | i + 1 => if ((x >>> (nI i &&& 31)) &&& 1) = 0 then gv_dq f x i ||| 0 else gv_dq f x i ||| f i
def gv_dr (f : Nat → Int32) (n : Nat) (x : Int32) : Nat → Int32 × Int32
  | 0 => (x, 0)
  | i + 1 => (gv_dq f (gv_dr f n x i).1 n, if gv_dq f (gv_dr f n x i).1 n = 0 then (gv_dr f n x i).2 + 0 else (gv_dr f n x i).2 + 1)
theorem gv_depth32 {post : Int32 → Prop} {J : Int32 → Int32 → Int32 → Prop} {n : Nat} {l r : Nat → Nat} {k x2 x3 x4 : Int32} {a1 a2 a3 a4 : Nat → Int32} (hW : gv_W n l r a1 a2)
    (H0 : gv_dq (fun i => nI (l i) ||| nI (r i)) x2 n = 0 → J (gv_dq (fun i => nI (l i) ||| nI (r i)) x2 n) (x3 + 0) (x4 + 1)) (H1 : ¬ gv_dq (fun i => nI (l i) ||| nI (r i)) x2 n = 0 → J (gv_dq (fun i => nI (l i) ||| nI (r i)) x2 n) (x3 + 1) (x4 + 1)) :
    ∃ f, wX_depth_32 post J x2 x3 x4 (nI n) k a1 a2 a3 a4 f 0 0 := by
  obtain ⟨hn1, hn, hw0⟩ := hW
  refine pk_loop (σ := Unit) (fun f i _ => wX_depth_32 post J x2 x3 x4 (nI n) k a1 a2 a3 a4 f (gv_dq (fun i => nI (l i) ||| nI (r i)) x2 i) (nI i)) (fun _ _ => True) n 0 () (Nat.zero_le _) trivial ?_ ?_
  · intro f _ _
    exact pk_le n n (fun _ => br_c (fun e => nm_e (nm_e (H0 e))) (fun e => nm_e (nm_e (H1 e)))) (fun z => absurd z (by omega))
  · intro f i _ hi _ hw
    refine pk_le n i (fun z => absurd z (by omega)) (fun _ => ?_)
    have hw' := hw () trivial
    refine br_c (fun e => br_t rfl (nm_r (e' := gv_dq (fun i => nI (l i) ||| nI (r i)) x2 (i + 1)) (by rw [gv_dq, if_pos e]) (nm_r (nI_1 i) hw'))) (fun e => br_f (by decide) ?_)
    refine And.intro (pk_in i 10 (by omega)) (And.intro (pk_in i 10 (by omega)) (nm_r (e' := gv_dq (fun i => nI (l i) ||| nI (r i)) x2 (i + 1)) ?_ (nm_r (nI_1 i) hw')))
    rw [gv_dq, if_neg e, nI_clamp (by omega), (hw0 i hi).2.2.1, (hw0 i hi).2.2.2]
theorem gv_depth {post : Int32 → Prop} {n : Nat} {l r : Nat → Nat} {u : St1} {p : Nat} (hK : gv_K n l r u) (hp : p < n)
    (H : post (gv_dr (fun i => nI (l i) ||| nI (r i)) n ((1 : Int32) <<< (nI p &&& 31)) 10).2) : wpX_depth post u (nI p) := by
  obtain ⟨c, k, a1, a2, a3, a4⟩ := u
  obtain rfl : c = nI n := hK.1
  have hn : n ≤ 10 := hK.2.1.2.1
  unfold wpX_depth
  dsimp only
  refine gv_has hp hn (br_f gv_10 (nm_e ?_))
  refine pk_loop (σ := Unit) (fun f i _ => wX_depth_19 post (nI n) k a1 a2 a3 a4 f (gv_dr (fun i => nI (l i) ||| nI (r i)) n ((1 : Int32) <<< (nI p &&& 31)) i).1 (gv_dr (fun i => nI (l i) ||| nI (r i)) n ((1 : Int32) <<< (nI p &&& 31)) i).2 (nI i)) (fun _ _ => True) 10 0 () (Nat.zero_le _) trivial ?_ ?_
  · intro f _ _
    exact pk_le 10 10 (fun _ => H) (fun z => absurd z (by omega))
  · intro f i _ hi _ hw
    refine pk_le 10 i (fun z => absurd z (by omega)) (fun _ => ?_)
    have hw' := hw () trivial
    dsimp only [gv_dr] at hw'
    refine gv_depth32 hK.2.1 (fun e => ?_) (fun e => ?_)
    · rw [if_pos e] at hw'
      rw [nI_1]
      exact hw'
    · rw [if_neg e] at hw'
      rw [nI_1]
      exact hw'
end
section
/-! dominated -/
def gv_dd (m : Nat) (A B : Nat → Nat → Prop) (y x : Nat) : Prop := x ≠ y ∧ m.testBit x = true ∧ m.testBit y = true ∧ gv_b A B y x
theorem gv_D_dd {n m : Nat} {A B : Nat → Nat → Prop} {x : Nat} : gv_D n (fun z => m.testBit z = true) A B x ↔ ∃ y, y < n ∧ gv_dd m A B y x := Iff.rfl
theorem gv_d74 {post : Int32 → St1 → Prop} {J23 J35 : Int32 → Int32 → Prop} {n : Nat} {l r : Nat → Nat} {x3 x4 c k : Int32} {a1 a2 a3 a4 : Nat → Int32} {x y sd : Nat} (hsd : sd < 2) (hJ : gv_J n l r (c, k, a1, a2, a3, a4)) (hx : x < n) (hy : y < n)
    (Hy : gv_b (gv_M (gv_l sd l r)) (gv_M (gv_l (1 - sd) l r)) y x → J35 (x4 ||| ((1 : Int32) <<< (nI x &&& 31))) (nI (y + 1))) (Hn : ¬ gv_b (gv_M (gv_l sd l r)) (gv_M (gv_l (1 - sd) l r)) y x → J35 x4 (nI (y + 1))) :
    wX_dominated_74 post J23 J35 (nI sd) x3 x4 (nI x) (nI y) 1 c k a1 a2 a3 a4 := by
  have hn : n ≤ 10 := hJ.1.2.1.2.1
  unfold wX_dominated_74
  refine br_f gv_10 (gv_asGood hsd hJ hy hx (fun v t => br_c (fun e => nm_r (nI_1 y) (Hn (fun g => t.mpr g.1 e))) (fun e => ?_)))
  refine pk_lt y x (fun z => nm_e (nm_r (nI_1 y) (Hy ⟨t.mp e, Or.inl z⟩))) (fun z => ?_)
  refine gv_asGood hsd hJ hx hy (fun v2 t2 => br_c (fun e2 => nm_e (nm_r (nI_1 y) (Hy ⟨t.mp e, Or.inr (fun g => t2.mpr g e2)⟩))) (fun e2 => nm_r (nI_1 y) (Hn (fun g => ?_))))
  exact g.2.elim (fun g2 => absurd g2 (by omega)) (fun g2 => g2 (t2.mp e2))
theorem gv_d35 {post : Int32 → St1 → Prop} {J23 : Int32 → Int32 → Prop} {n : Nat} {l r : Nat → Nat} {k : Int32} {a1 a2 a3 a4 : Nat → Int32} {x sd m w : Nat} (hsd : sd < 2) (hJ : gv_J n l r (nI n, k, a1, a2, a3, a4)) (hx : x < n) (hm : m < 1024)
    (hb : ∀ z, w.testBit z = true ↔ (z < x ∧ gv_D n (fun z => m.testBit z = true) (gv_M (gv_l sd l r)) (gv_M (gv_l (1 - sd) l r)) z))
    (H : ∀ w', (∀ z, w'.testBit z = true ↔ (z < x + 1 ∧ gv_D n (fun z => m.testBit z = true) (gv_M (gv_l sd l r)) (gv_M (gv_l (1 - sd) l r)) z)) → J23 (nI w') (nI (x + 1))) :
    ∃ f, wX_dominated_35 post J23 (nI sd) (nI m) (nI x) (nI n) k a1 a2 a3 a4 f (nI w) 0 := by
  have hn : n ≤ 10 := hJ.1.2.1.2.1
  refine pk_loop (σ := Int32) (fun f i s => wX_dominated_35 post J23 (nI sd) (nI m) (nI x) (nI n) k a1 a2 a3 a4 f s (nI i))
    (fun i s => ∃ w', s = nI w' ∧ ∀ z, w'.testBit z = true ↔ ((z < x ∧ gv_D n (fun z => m.testBit z = true) (gv_M (gv_l sd l r)) (gv_M (gv_l (1 - sd) l r)) z) ∨ (z = x ∧ ∃ y, y < i ∧ gv_dd m (gv_M (gv_l sd l r)) (gv_M (gv_l (1 - sd) l r)) y x)))
    n 0 (nI w) (Nat.zero_le _) ⟨w, rfl, fun z => (hb z).trans ⟨fun t => Or.inl t, fun t => t.elim id (fun t => absurd t.2.choose_spec.1 (Nat.not_lt_zero _))⟩⟩ ?_ ?_
  · intro f s h
    obtain ⟨w', rfl, h'⟩ := h
    refine pk_le n n (fun _ => nm_r (nI_1 x) (H w' (fun z => (h' z).trans ⟨fun t => ?_, fun t => ?_⟩))) (fun z => absurd z (by omega))
    · rcases t with t | ⟨t1, t2⟩
      · exact ⟨by omega, t.2⟩
      · subst t1
        exact ⟨by omega, gv_D_dd.mpr t2⟩
    · rcases Nat.lt_or_ge z x with e | e
      · exact Or.inl ⟨e, t.2⟩
      · have e2 : z = x := by omega
        subst e2
        exact Or.inr ⟨rfl, gv_D_dd.mp t.2⟩
  · intro f i s hi h hw
    obtain ⟨w', rfl, h'⟩ := h
    have Hn : ¬ gv_dd m (gv_M (gv_l sd l r)) (gv_M (gv_l (1 - sd) l r)) i x → wX_dominated_35 post J23 (nI sd) (nI m) (nI x) (nI n) k a1 a2 a3 a4 f (nI w') (nI (i + 1)) := by
      intro hd
      refine hw (nI w') ⟨w', rfl, fun z => (h' z).trans ⟨fun t => ?_, fun t => ?_⟩⟩
      · rcases t with t | ⟨t1, y, t2, t3⟩
        · exact Or.inl t
        · exact Or.inr ⟨t1, y, by omega, t3⟩
      · rcases t with t | ⟨t1, y, t2, t3⟩
        · exact Or.inl t
        · rcases Nat.lt_or_ge y i with e | e
          · exact Or.inr ⟨t1, y, e, t3⟩
          · have e2 : y = i := by omega
            subst e2
            exact absurd t3 hd
    have Hy : gv_dd m (gv_M (gv_l sd l r)) (gv_M (gv_l (1 - sd) l r)) i x → wX_dominated_35 post J23 (nI sd) (nI m) (nI x) (nI n) k a1 a2 a3 a4 f (nI w' ||| ((1 : Int32) <<< (nI x &&& 31))) (nI (i + 1)) := by
      intro hd
      refine hw _ ⟨w' ||| 2 ^ x, by rw [gv_sh1 x (by omega), gv_or], fun z => ?_⟩
      rw [Nat.testBit_or, Nat.testBit_two_pow, Bool.or_eq_true, h' z, decide_eq_true_eq]
      constructor
      · intro t
        rcases t with (t | ⟨t1, y, t2, t3⟩) | t
        · exact Or.inl t
        · exact Or.inr ⟨t1, y, by omega, t3⟩
        · exact Or.inr ⟨t.symm, i, by omega, hd⟩
      · intro t
        rcases t with t | ⟨t1, _⟩
        · exact Or.inl (Or.inl t)
        · exact Or.inr t1.symm
    have no : ¬ gv_dd m (gv_M (gv_l sd l r)) (gv_M (gv_l (1 - sd) l r)) i x → wX_dominated_73 post J23 (wX_dominated_35 post J23 (nI sd) (nI m) (nI x) (nI n) k a1 a2 a3 a4 f) (nI sd) (nI m) (nI w') (nI x) (nI i) (nI n) k a1 a2 a3 a4 := fun hd => by
      unfold wX_dominated_73 wX_dominated_74
      exact br_t rfl (nm_r (nI_1 i) (Hn hd))
    refine pk_le n i (fun z => absurd z (by omega)) (fun _ => pk_eq x i (fun e => no (fun t => t.1 e)) (fun ne => ?_))
    refine gv_in (by omega) (by omega) (fun bx => br_f gv_10 (gv_in (by omega) (by omega) (fun by' => br_f gv_10 ?_) (fun by' => br_t rfl (no (fun t => by' t.2.2.1))))) (fun bx => br_t rfl (no (fun t => bx t.2.1)))
    exact gv_d74 hsd hJ hx hi (fun hb => Hy ⟨ne, bx, by', hb⟩) (fun hb => Hn (fun t => hb t.2.2.2))
theorem gv_dominated {post : Int32 → St1 → Prop} {n : Nat} {l r : Nat → Nat} {u : St1} {p sd : Nat} {y : Int32} (hy : y = nI sd) (hsd : sd < 2) (hK : gv_K n l r u) (hp : p < n)
    (H : ∀ w u', (∀ z, w.testBit z = true ↔ (z < n ∧ gv_D n (fun z => (gv_l sd l r p).testBit z = true) (gv_M (gv_l sd l r)) (gv_M (gv_l (1 - sd) l r)) z)) → gv_K n l r u' → post (nI w) u') : wpX_dominated post u (nI p) y := by
  subst hy
  obtain ⟨c, k, a1, a2, a3, a4⟩ := u
  have hn : n ≤ 10 := hK.2.1.2.1
  have hm : gv_l sd l r p < 1024 := by
    rcases (by omega : sd = 0 ∨ sd = 1) with rfl | rfl
    · exact gv_p1024 (p := p) (by omega) (hK.2.1.2.2 p hp).1
    · exact gv_p1024 (p := p) (by omega) (hK.2.1.2.2 p hp).2.1
  unfold wpX_dominated
  dsimp only
  refine gv_moves rfl hsd hK hp (br_t (nI_pos' (by omega)) (gv_learn hK (fun u' hJ => ?_)))
  obtain ⟨c', k', b1, b2, b3, b4⟩ := u'
  obtain rfl : c' = nI n := hJ.1.1
  refine pk_loop (σ := Int32) (fun f i s => wX_dominated_23 post (nI sd) (nI (gv_l sd l r p)) (nI n) k' b1 b2 b3 b4 f s (nI i))
    (fun i s => ∃ w, s = nI w ∧ ∀ z, w.testBit z = true ↔ (z < i ∧ gv_D n (fun z => (gv_l sd l r p).testBit z = true) (gv_M (gv_l sd l r)) (gv_M (gv_l (1 - sd) l r)) z))
    n 0 0 (Nat.zero_le _) ⟨0, rfl, fun z => ⟨fun t => absurd t (by rw [Nat.zero_testBit]; decide), fun t => absurd t.1 (Nat.not_lt_zero z)⟩⟩ ?_ ?_
  · intro f s h
    obtain ⟨w, rfl, hb⟩ := h
    exact pk_le n n (fun _ => H w _ hb hJ.1) (fun z => absurd z (by omega))
  · intro f i s hi h hw
    obtain ⟨w, rfl, hb⟩ := h
    refine pk_le n i (fun z => absurd z (by omega)) (fun _ => ?_)
    exact gv_d35 hsd hJ hi hm hb (fun w' hb' => hw (nI w') ⟨w', rfl, hb'⟩)
theorem gv_bits_eq {w w' : Nat} {P : Nat → Prop} (h : ∀ z, w.testBit z = true ↔ P z) (h' : ∀ z, w'.testBit z = true ↔ P z) : w = w' :=
  Nat.eq_of_testBit_eq (fun i => Bool.eq_iff_iff.mpr ((h i).trans (h' i).symm))
/-! add, drop -/
def gv_u (f : Nat → Nat) (n a : Nat) : Nat → Nat := fun p => if p = n then a else f p
theorem gv_u_s (f : Nat → Nat) (n a : Nat) : gv_u f n a n = a := if_pos rfl
theorem gv_u_n {f : Nat → Nat} {n a p : Nat} (h : p ≠ n) : gv_u f n a p = f p := if_neg h
theorem gv_isSet {post : Int32 → Prop} {n m : Nat} {k : Int32} {a1 a2 a3 a4 : Nat → Int32} (hn : n ≤ 10) (hm : m < 2 ^ n) (H : post 1) : wpX_isSet post (nI n, k, a1, a2, a3, a4) (nI m) := by
  have h1 := gv_p1024 hn hm
  have h2 : 2 ^ n ≤ 2 ^ 10 := Nat.pow_le_pow_right (by decide) hn
  unfold wpX_isSet
  dsimp only
  rw [gv_sh1 n (by omega)]
  exact br_f (nI_pos (by omega)) (br_f (nI_ge hm (by omega)) H)
theorem gv_add {post : Int32 → St1 → Prop} {n : Nat} {l r : Nat → Nat} {u : St1} {a b : Nat} (hK : gv_K n l r u) (ha : a < 2 ^ n) (hb : b < 2 ^ n)
    (H : n < 10 → ∀ u', gv_K (n + 1) (gv_u l n a) (gv_u r n b) u' → post (nI n) u') (H2 : n = 10 → post (-2) u) : wpX_add post u (nI a) (nI b) := by
  obtain ⟨c, k, a1, a2, a3, a4⟩ := u
  obtain rfl : c = nI n := hK.1
  have hn : n ≤ 10 := hK.2.1.2.1
  unfold wpX_add
  dsimp only
  refine gv_isSet hn ha (br_f gv_10 (gv_isSet hn hb (br_f gv_10 ?_)))
  refine pk_lt n 10 (fun z => ?_) (fun z => H2 (by omega))
  refine And.intro (pk_in n 10 z) (nm_e (And.intro (pk_in n 10 z) (nm_e (nm_r (nI_1 n) ?_))))
  rw [nI_pred, nI_clamp (by omega), gv_i16 a (gv_p1024 hn ha), gv_i16 b (gv_p1024 hn hb)]
  refine H z _ ⟨rfl, ⟨by omega, by omega, fun p hp => ?_⟩, hK.2.2.1, hK.2.2.2.1, fun t => absurd rfl t⟩
  by_cases e : p = n
  · subst e
    rw [gv_u_s, gv_u_s]
    exact ⟨ha, hb, pk_us, pk_us⟩
  · rw [gv_u_n e, gv_u_n e]
    have t := hK.2.1.2.2 p (by omega)
    exact ⟨t.1, t.2.1, (pk_un e).trans t.2.2.1, (pk_un e).trans t.2.2.2⟩
theorem gv_drop {post : Int32 → St1 → Prop} {n : Nat} {l r l' r' : Nat → Nat} {u : St1} (hK : gv_K n l r u) (hl : ∀ p, p < n - 1 → l' p = l p ∧ r' p = r p)
    (H : n ≠ 1 → ∀ u', gv_K (n - 1) l' r' u' → post (nI (n - 1)) u') (H2 : n = 1 → post (-1) u) : wpX_drop post u := by
  obtain ⟨c, k, a1, a2, a3, a4⟩ := u
  obtain rfl : c = nI n := hK.1
  have hn1 : 1 ≤ n := hK.2.1.1
  have hn : n ≤ 10 := hK.2.1.2.1
  refine pk_eq n 1 (fun z => H2 z) (fun z => nm_r (e' := nI (n - 1)) (pk_sub (b := 1) hn1) ?_)
  refine H z _ ⟨rfl, ⟨by omega, by omega, fun p hp => ?_⟩, hK.2.2.1, hK.2.2.2.1, fun t => absurd rfl t⟩
  have t := hK.2.1.2.2 p (by omega)
  rw [(hl p hp).1, (hl p hp).2]
  exact t
end
section
/-! the law's own methods: alike, ordered -/
theorem gv_bit_ne {P : Prop} : ¬ gv_bit P = 0 ↔ P := by
  by_cases h : P
  · rw [gv_bit_t h]
    exact ⟨fun _ => h, fun _ => gv_10⟩
  · rw [gv_bit_f h]
    exact ⟨fun z => absurd rfl z, fun z => absurd z h⟩
theorem gv_cmp_c {P Q P' Q' : Prop} (h : P ↔ P') (h2 : Q ↔ Q') : gv_cmp P Q = gv_cmp P' Q' := by rw [propext h, propext h2]
theorem gv_positions {post : Int32 → Prop} {n : Nat} {l r : Nat → Nat} {u : St1} (hK : gv_K n l r u) (H : post (nI n)) : wpX_positions post u := by
  obtain ⟨c, k, a1, a2, a3, a4⟩ := u
  obtain rfl : c = nI n := hK.1
  exact H
theorem gv_1m {sd : Nat} (h : sd < 2) : 1 - nI sd = nI (1 - sd) := pk_sub (a := 1) (by omega)
theorem gv_al129 {post : Int32 → St2 → Prop} {n : Nat} {l r : Nat → Nat} {a b sd f : Nat} {c k c' k' : Int32} {a1 a2 a3 a4 b1 b2 b3 b4 : Nat → Int32} (hsd : sd < 2) (h1 : gv_K n l r (c, k, a1, a2, a3, a4)) (h2 : gv_K n r l (c', k', b1, b2, b3, b4)) (ha : a < n) (hb : b < n)
    (H : ∀ c k a1 a2 a3 a4 c' k' b1 b2 b3 b4, gv_K n l r (c, k, a1, a2, a3, a4) → gv_K n r l (c', k', b1, b2, b3, b4) → wL_alike_129 post (nI a) (nI b) f 1 (nI (sd + 1)) c k a1 a2 a3 a4 c' k' b1 b2 b3 b4) :
    wL_alike_129 post (nI a) (nI b) (f + 1) 1 (nI sd) c k a1 a2 a3 a4 c' k' b1 b2 b3 b4 := by
  refine pk_le 2 sd (fun z => absurd z (by omega)) (fun _ => br_f gv_10 ?_)
  refine gv_wins rfl hsd h1 ha (fun u1 h1 => ?_)
  obtain ⟨c, k, a1, a2, a3, a4⟩ := u1
  refine gv_wins (gv_1m hsd) (by omega) h2 ha (fun u2 h2 => ?_)
  obtain ⟨c', k', b1, b2, b3, b4⟩ := u2
  refine br_t (by rw [gv_l_sw hsd l r, gv_l_sw2 hsd l r]) ?_
  refine gv_winsSum rfl hsd h1 ha hb (fun u1 h1 => ?_)
  obtain ⟨c, k, a1, a2, a3, a4⟩ := u1
  refine gv_winsSum (gv_1m hsd) (by omega) h2 ha hb (fun u2 h2 => ?_)
  obtain ⟨c', k', b1, b2, b3, b4⟩ := u2
  refine br_t (by rw [gv_l_sw hsd l r, gv_l_sw2 hsd l r]) ?_
  refine gv_dominated rfl hsd h1 ha (fun w u1 hw h1 => ?_)
  obtain ⟨c, k, a1, a2, a3, a4⟩ := u1
  refine gv_dominated (gv_1m hsd) (by omega) h2 ha (fun w' u2 hw' h2 => ?_)
  obtain ⟨c', k', b1, b2, b3, b4⟩ := u2
  rw [gv_l_sw hsd l r, gv_l_sw2 hsd l r] at hw'
  refine br_t (by rw [gv_bits_eq hw hw']) ?_
  refine gv_moves rfl hsd h1 hb (gv_moves (gv_1m hsd) (by omega) h2 hb ?_)
  exact br_t (by rw [gv_l_sw hsd l r]) (nm_r (nI_1 sd) (H _ _ _ _ _ _ _ _ _ _ _ _ h1 h2))
theorem gv_alike {post : Int32 → St2 → Prop} {n : Nat} {l r : Nat → Nat} {a b d : Nat} {c k c' k' : Int32} {a1 a2 a3 a4 b1 b2 b3 b4 : Nat → Int32} (h1 : gv_K n l r (c, k, a1, a2, a3, a4)) (h2 : gv_K n r l (c', k', b1, b2, b3, b4)) (ha : a < n) (hb : b < n) (hd : d < n)
    (H : ∀ c k a1 a2 a3 a4 c' k' b1 b2 b3 b4, gv_K n l r (c, k, a1, a2, a3, a4) → gv_K n r l (c', k', b1, b2, b3, b4) → post 1 (c, k, a1, a2, a3, a4, c', k', b1, b2, b3, b4)) :
    wpL_alike post (c, k, a1, a2, a3, a4, c', k', b1, b2, b3, b4) (nI a) (nI b) (nI d) := by
  unfold wpL_alike
  dsimp only
  refine gv_compare h1 ha hb (fun u1 h1 => ?_)
  obtain ⟨c, k, a1, a2, a3, a4⟩ := u1
  refine gv_compareSum h1 ha hb hd (fun u1 h1 => ?_)
  obtain ⟨c, k, a1, a2, a3, a4⟩ := u1
  refine gv_turned (gv_turned (gv_positions h1 (gv_positions h2 (br_t rfl ?_))))
  refine gv_compare h2 ha hb (fun u2 h2 => ?_)
  obtain ⟨c', k', b1, b2, b3, b4⟩ := u2
  refine br_t rfl ?_
  refine gv_compareSum h2 ha hb hd (fun u2 h2 => ?_)
  obtain ⟨c', k', b1, b2, b3, b4⟩ := u2
  refine br_t rfl ?_
  refine gv_values h1 (fun u1 h1 => ?_)
  obtain ⟨c, k, a1, a2, a3, a4⟩ := u1
  refine gv_values h2 (fun u2 h2 => ?_)
  obtain ⟨c', k', b1, b2, b3, b4⟩ := u2
  refine br_t (by rw [gv_E_sw (gv_M l) (gv_M r)]) ?_
  refine gv_first h1 ha (fun f u1 hf h1 => ?_)
  obtain ⟨c, k, a1, a2, a3, a4⟩ := u1
  refine gv_first h2 ha (fun f' u2 hf' h2 => ?_)
  obtain ⟨c', k', b1, b2, b3, b4⟩ := u2
  rw [gv_E_sw (gv_M l) (gv_M r)] at hf'
  refine br_t (by rw [gv_F_uniq hf hf']) ?_
  refine gv_depth h1 ha (gv_depth h2 ha (br_t ?_ ?_))
  · rw [show (fun i => nI (l i) ||| nI (r i)) = (fun i => nI (r i) ||| nI (l i)) from funext (fun i => Int32.or_comm _ _)]
  refine gv_opposite h1 ha hb (fun u1 h1 => ?_)
  obtain ⟨c, k, a1, a2, a3, a4⟩ := u1
  refine gv_opposite h2 ha hb (fun u2 h2 => ?_)
  obtain ⟨c', k', b1, b2, b3, b4⟩ := u2
  refine br_t (gv_bit_c ⟨fun t => ⟨t.2, t.1⟩, fun t => ⟨t.2, t.1⟩⟩) ⟨3, ?_⟩
  refine gv_al129 (sd := 0) (by omega) h1 h2 ha hb (fun c k a1 a2 a3 a4 c' k' b1 b2 b3 b4 h1 h2 => ?_)
  refine gv_al129 (sd := 1) (by omega) h1 h2 ha hb (fun c k a1 a2 a3 a4 c' k' b1 b2 b3 b4 h1 h2 => ?_)
  exact br_t (nI_le (a := 2) (b := 2) (by omega) (by omega)) (And.intro (gv_nw (Or.inr rfl)) (H _ _ _ _ _ _ _ _ _ _ _ _ h1 h2))
theorem gv_o95 {post : Int32 → St1 → Prop} {c k : Int32} {a1 a2 a3 a4 : Nat → Int32} (H : post 1 (c, k, a1, a2, a3, a4)) : wL_ordered_95 post 1 1 c k a1 a2 a3 a4 := by
  unfold wL_ordered_95 wL_ordered_100
  exact br_f gv_10 (br_f gv_10 (br_f gv_10 H))
theorem gv_o72 {post : Int32 → St1 → Prop} {n : Nat} {l r : Nat → Nat} {a b : Nat} {x5 x6 c k : Int32} {a1 a2 a3 a4 : Nat → Int32} (hK : gv_K n l r (c, k, a1, a2, a3, a4)) (ha : a < n) (hb : b < n)
    (he : x6 = 0 → x5 = gv_cmp (gv_G (gv_M l) (gv_M r) a 0 b) (gv_G (gv_M r) (gv_M l) a 0 b)) (H : ∀ u', gv_K n l r u' → post 1 u') : wL_ordered_72 post (nI a) (nI b) 1 x5 x6 c k a1 a2 a3 a4 := by
  unfold wL_ordered_72 wL_ordered_77
  refine br_c (fun e => gv_compare hK ha hb (fun u' h => ?_)) (fun e => gv_o95 (H _ hK))
  obtain ⟨c', k', b1, b2, b3, b4⟩ := u'
  exact br_t (he e) (gv_o95 (H _ h))
theorem gv_o32 {post : Int32 → St1 → Prop} {n : Nat} {l r : Nat → Nat} {a b d : Nat} {c k : Int32} {a1 a2 a3 a4 : Nat → Int32} (hK : gv_K n l r (c, k, a1, a2, a3, a4)) (ha : a < n) (hb : b < n) (hd : d < n)
    (H : ∀ u', gv_K n l r u' → post 1 u') : wL_ordered_32 post (nI a) (nI b) (nI d) 1 c k a1 a2 a3 a4 := by
  have hn : 1 ≤ n := hK.2.1.1
  have keeps : gv_cmp (gv_G (gv_M l) (gv_M r) d 0 0) (gv_G (gv_M r) (gv_M l) d 0 0) = 0 → gv_cmp (gv_G (gv_M l) (gv_M r) a d b) (gv_G (gv_M r) (gv_M l) a d b) = gv_cmp (gv_G (gv_M l) (gv_M r) a 0 b) (gv_G (gv_M r) (gv_M l) a 0 b) := by
    intro e
    obtain ⟨e1, e2⟩ := gv_cmp_is0.mp e
    exact gv_cmp_c ⟨fun t => gv_sumB t e2, fun t => gv_sumA t e1⟩ ⟨fun t => gv_sumB t e1, fun t => gv_sumA t e2⟩
  unfold wL_ordered_32
  refine gv_compareSum hK ha hd hb (fun u1 hK => ?_)
  obtain ⟨c, k, a1, a2, a3, a4⟩ := u1
  refine gv_compare (q := 0) hK hd hn (fun u1 hK => ?_)
  obtain ⟨c, k, a1, a2, a3, a4⟩ := u1
  refine br_c (fun e => ?_) (fun e => gv_o72 hK ha hb keeps H)
  obtain ⟨e1, e2⟩ := gv_cmp_is1.mp e
  refine gv_atLeast hK ha hb (fun u1 hK => ?_)
  obtain ⟨c, k, a1, a2, a3, a4⟩ := u1
  refine br_c (fun _ => gv_o72 hK ha hb keeps H) (fun g => br_t ?_ (gv_o72 hK ha hb keeps H))
  have g' := gv_bit_ne.mp g
  exact gv_cmp_is1.mpr ⟨gv_sumA g' e1, fun t => e2 (gv_sumC t g')⟩
theorem gv_ordered {post : Int32 → St1 → Prop} {n : Nat} {l r : Nat → Nat} {u : St1} {a b d : Nat} (hK : gv_K n l r u) (ha : a < n) (hb : b < n) (hd : d < n)
    (H : ∀ u', gv_K n l r u' → post 1 u') : wpL_ordered post u (nI a) (nI b) (nI d) := by
  obtain ⟨c, k, a1, a2, a3, a4⟩ := u
  unfold wpL_ordered wL_ordered_27
  dsimp only
  refine gv_atLeast hK ha hb (fun u1 hK => ?_)
  obtain ⟨c, k, a1, a2, a3, a4⟩ := u1
  refine br_c (fun _ => gv_o32 hK ha hb hd H) (fun g1 => ?_)
  refine gv_atLeast hK hb hd (fun u1 hK => ?_)
  obtain ⟨c, k, a1, a2, a3, a4⟩ := u1
  refine br_c (fun _ => gv_o32 hK ha hb hd H) (fun g2 => ?_)
  refine gv_atLeast hK ha hd (fun u1 hK => ?_)
  obtain ⟨c, k, a1, a2, a3, a4⟩ := u1
  exact br_f (gv_bit_ne.mpr (gv_trans (gv_bit_ne.mp g1) (gv_bit_ne.mp g2))) (gv_o32 hK ha hb hd H)
end
section
/-! the law -/
theorem gv_nm1 {n : Nat} (h : 1 ≤ n) : nI n - 1 = nI (n - 1) := pk_sub (b := 1) h
theorem gv_rem15 (x : Int32) {n : Nat} (h1 : 1 ≤ n) (hn : n ≤ 10) : ∃ j, j < n ∧ (x &&& 15) - (x &&& 15) / nI n * nI n = nI j := by
  obtain ⟨i, hi, e⟩ := pk_andE x (m := 15) 4 (by decide)
  refine ⟨i % n, Nat.mod_lt _ (by omega), ?_⟩
  rw [e, pk_rem (by omega) (by omega) (by omega)]
theorem gv_235 {post : Int32 → Prop} {L : Nat} {xs : Nat → Int32} {J18 : Int32 → Int32 → Int32 → (Nat → Int32) → (Nat → Int32) → (Nat → Int32) → (Nat → Int32) → Int32 → Int32 → (Nat → Int32) → (Nat → Int32) → (Nat → Int32) → (Nat → Int32) → Prop} {x3 x5 : Int32} {kc ks : Nat}
    {n : Nat} {l r : Nat → Nat} {c k c' k' : Int32} {a1 a2 a3 a4 b1 b2 b3 b4 : Nat → Int32} (h1 : gv_K n l r (c, k, a1, a2, a3, a4)) (h2 : gv_K n r l (c', k', b1, b2, b3, b4))
    (H : ∀ c k a1 a2 a3 a4 c' k' b1 b2 b3 b4, gv_K n l r (c, k, a1, a2, a3, a4) → gv_K n r l (c', k', b1, b2, b3, b4) → J18 (x3 + 1) c k a1 a2 a3 a4 c' k' b1 b2 b3 b4) :
    wL_law_235 post L xs J18 x3 x5 kc ks c k a1 a2 a3 a4 c' k' b1 b2 b3 b4 := by
  have hn1 : 1 ≤ n := h1.2.1.1
  have hn : n ≤ 10 := h1.2.1.2.1
  have ne : ¬ nI n = 0 := nI_ne0 (by omega) (by omega)
  obtain ⟨a, ha, ea⟩ := gv_rem15 (x5 >>> ((4 : Int32) &&& 31)) hn1 hn
  obtain ⟨b, hb, eb⟩ := gv_rem15 (x5 >>> ((8 : Int32) &&& 31)) hn1 hn
  obtain ⟨d, hd, ed⟩ := gv_rem15 (x5 >>> ((12 : Int32) &&& 31)) hn1 hn
  unfold wL_law_235
  refine gv_positions h1 (And.intro ne (nm_r ea (And.intro ne (nm_r eb (And.intro ne (nm_r ed ?_))))))
  rw [gv_nm1 hn1]
  refine gv_alike h1 h2 ha hb hd (fun c k a1 a2 a3 a4 c' k' b1 b2 b3 b4 h1 h2 => br_f gv_10 ?_)
  refine gv_ordered h1 ha hb hd (fun u1 h1 => ?_)
  obtain ⟨c, k, a1, a2, a3, a4⟩ := u1
  refine br_f gv_10 (gv_ordered h1 (by omega) ha hb (fun u1 h1 => ?_))
  obtain ⟨c, k, a1, a2, a3, a4⟩ := u1
  exact br_f gv_10 (nm_e (H _ _ _ _ _ _ _ _ _ _ _ _ h1 h2))
theorem gv_less_bits {a w n : Nat} (ha : a < 2 ^ n) (hn : n ≤ 10) (z : Nat) : (a &&& (w ^^^ 4294967295)).testBit z = true ↔ (a.testBit z = true ∧ ¬ w.testBit z = true) := by
  have h : a.testBit z = true → z < 32 := fun t => by
    have := gv_lt ha t
    omega
  rw [Nat.testBit_and, Nat.testBit_xor, show (4294967295 : Nat) = 2 ^ 32 - 1 from rfl, Nat.testBit_two_pow_sub_one]
  by_cases hz : z < 32
  · rw [decide_eq_true hz]
    cases a.testBit z <;> cases w.testBit z <;> decide
  · have e : a.testBit z = false := by
      cases t : a.testBit z
      · rfl
      · exact absurd (h t) hz
    rw [e]
    simp
theorem gv_less {n a b w : Nat} {l r : Nat → Nat} (ha : a < 2 ^ n) (hb : b < 2 ^ n) (hn : n ≤ 10)
    (hw : ∀ z, w.testBit z = true ↔ (z < n + 1 ∧ gv_D (n + 1) (fun z => (gv_u l n a n).testBit z = true) (gv_M (gv_u l n a)) (gv_M (gv_u r n b)) z)) :
    gv_G (gv_M (gv_u (gv_u l n a) (n + 1) (a &&& (w ^^^ 4294967295)))) (gv_M (gv_u (gv_u r n b) (n + 1) b)) n 0 (n + 1) ∧ gv_G (gv_M (gv_u (gv_u r n b) (n + 1) b)) (gv_M (gv_u (gv_u l n a) (n + 1) (a &&& (w ^^^ 4294967295)))) n 0 (n + 1) := by
  have l1 : ∀ x, gv_M (gv_u (gv_u l n a) (n + 1) (a &&& (w ^^^ 4294967295))) (n + 1) x ↔ (a.testBit x = true ∧ ¬ w.testBit x = true) := fun x => by
    unfold gv_M
    rw [gv_u_s]
    exact gv_less_bits ha hn x
  have l0 : ∀ x, gv_M (gv_u (gv_u l n a) (n + 1) (a &&& (w ^^^ 4294967295))) n x ↔ a.testBit x = true := fun x => by
    unfold gv_M
    rw [gv_u_n (by omega), gv_u_s]
  have r1 : ∀ x, gv_M (gv_u (gv_u r n b) (n + 1) b) (n + 1) x ↔ b.testBit x = true := fun x => by
    unfold gv_M
    rw [gv_u_s]
  have r0 : ∀ x, gv_M (gv_u (gv_u r n b) (n + 1) b) n x ↔ b.testBit x = true := fun x => by
    unfold gv_M
    rw [gv_u_n (by omega), gv_u_s]
  have cg : ∀ p x, p < n + 1 → (gv_M (gv_u l n a) p x ↔ gv_M (gv_u (gv_u l n a) (n + 1) (a &&& (w ^^^ 4294967295))) p x) ∧ (gv_M (gv_u r n b) p x ↔ gv_M (gv_u (gv_u r n b) (n + 1) b) p x) := fun p x hp => by
    unfold gv_M
    rw [gv_u_n (f := gv_u l n a) (by omega), gv_u_n (f := gv_u r n b) (by omega)]
    exact ⟨Iff.rfl, Iff.rfl⟩
  refine gv_dom_eq (D := fun x => w.testBit x = true) (by omega) (fun x => (l1 x).trans ⟨fun t => ⟨(l0 x).mpr t.1, t.2⟩, fun t => ⟨(l0 x).mp t.1, t.2⟩⟩) (fun x => (r1 x).trans (r0 x).symm) (fun x t => gv_lt ha ((l0 x).mp t)) (fun x t => gv_lt hb ((r0 x).mp t)) (fun x t => ?_)
  have hx := (l0 x).mp t
  have hs : (gv_u l n a n).testBit x = true := by
    rw [gv_u_s]
    exact hx
  obtain ⟨y, y1, y2, y3⟩ := gv_D_top (n := n + 1) (S := fun z => (gv_u l n a n).testBit z = true) (A := gv_M (gv_u l n a)) (B := gv_M (gv_u r n b)) hs
  have y1' : a.testBit y = true := by
    have y4 : (gv_u l n a n).testBit y = true := y1
    rw [gv_u_s] at y4
    exact y4
  have hy := gv_lt ha y1'
  have hx' := gv_lt ha hx
  exact ⟨y, (l0 y).mpr y1', fun t => y2 ((hw y).mp t).2, (gv_cong cg (by omega) (by omega) (by omega)).mp y3⟩
theorem gv_128 {post : Int32 → Prop} {L : Nat} {xs : Nat → Int32} {J18 : Int32 → Int32 → Int32 → (Nat → Int32) → (Nat → Int32) → (Nat → Int32) → (Nat → Int32) → Int32 → Int32 → (Nat → Int32) → (Nat → Int32) → (Nat → Int32) → (Nat → Int32) → Prop} {x3 x5 : Int32} {kc ks : Nat}
    {n a b w : Nat} {l r : Nat → Nat} {c k c' k' : Int32} {a1 a2 a3 a4 b1 b2 b3 b4 : Nat → Int32} (hn : n < 10) (ha : a < 2 ^ n) (hb : b < 2 ^ n)
    (h1 : gv_K (n + 1) (gv_u l n a) (gv_u r n b) (c, k, a1, a2, a3, a4)) (h2 : gv_K (n + 1) (gv_u r n b) (gv_u l n a) (c', k', b1, b2, b3, b4))
    (hw : ∀ z, w.testBit z = true ↔ (z < n + 1 ∧ gv_D (n + 1) (fun z => (gv_u l n a n).testBit z = true) (gv_M (gv_u l n a)) (gv_M (gv_u r n b)) z))
    (H : ∀ n l r c k a1 a2 a3 a4 c' k' b1 b2 b3 b4, gv_K n l r (c, k, a1, a2, a3, a4) → gv_K n r l (c', k', b1, b2, b3, b4) → J18 (x3 + 1) c k a1 a2 a3 a4 c' k' b1 b2 b3 b4) :
    wL_law_128 post L xs J18 x3 x5 (nI n) (nI a) (nI b) (nI n) (nI n) (nI w) kc ks c k a1 a2 a3 a4 c' k' b1 b2 b3 b4 := by
  have t211 : ∀ c k a1 a2 a3 a4, gv_K (n + 1) (gv_u l n a) (gv_u r n b) (c, k, a1, a2, a3, a4) → wL_law_211 post L xs J18 x3 x5 kc ks c k a1 a2 a3 a4 c' k' b1 b2 b3 b4 := fun c k a1 a2 a3 a4 h1 => by
    unfold wL_law_211
    exact gv_235 h1 h2 (H _ _ _)
  have e : nI a &&& (nI w ^^^ (-1)) = nI (a &&& (w ^^^ 4294967295)) := by
    rw [show (-1 : Int32) = nI 4294967295 from by decide, gv_xor, gv_and]
  have p2 : 2 ^ n ≤ 2 ^ (n + 1) := Nat.pow_le_pow_right (by decide) (by omega)
  have ha' : a &&& (w ^^^ 4294967295) < 2 ^ (n + 1) := Nat.lt_of_le_of_lt Nat.and_le_left (by omega)
  have m := gv_less (l := l) (r := r) ha hb (by omega) hw
  unfold wL_law_128
  refine br_t rfl (br_c (fun _ => t211 _ _ _ _ _ _ h1) (fun _ => pk_le 9 n (fun _ => t211 _ _ _ _ _ _ h1) (fun z => ?_)))
  rw [e]
  refine gv_add h1 ha' (by omega) (fun hlt u1 hK => ?_) (fun z => absurd z (by omega))
  obtain ⟨c, k, a1, a2, a3, a4⟩ := u1
  refine gv_compare hK (p := n) (q := n + 1) (by omega) (by omega) (fun u1 hK => ?_)
  obtain ⟨c, k, a1, a2, a3, a4⟩ := u1
  refine br_t (gv_cmp0 m.1 m.2) ?_
  refine gv_first hK (p := n + 1) (by omega) (fun f u1 hf hK => ?_)
  obtain ⟨c, k, a1, a2, a3, a4⟩ := u1
  refine gv_first hK (p := n) (by omega) (fun f' u1 hf' hK => ?_)
  obtain ⟨c, k, a1, a2, a3, a4⟩ := u1
  refine br_t (by rw [gv_F_same (by omega) m.1 ((gv_sym _ _ n (n + 1)).mp m.2) hf hf']) ?_
  unfold wL_law_197
  refine gv_drop (l' := gv_u l n a) (r' := gv_u r n b) hK (fun p hp => ⟨(gv_u_n (by omega)).symm, (gv_u_n (by omega)).symm⟩) (fun _ u1 h1 => ?_) (fun z => absurd z (by omega))
  obtain ⟨c, k, a1, a2, a3, a4⟩ := u1
  exact br_f gv_10 (t211 _ _ _ _ _ _ h1)
theorem gv_mask (x y : Int32) {n : Nat} (hn : n ≤ 10) : ∃ j, j < 2 ^ n ∧ (x &&& (((1 : Int32) <<< (nI n &&& 31)) - 1)) &&& y = nI j := by
  obtain ⟨j, hj, e⟩ := pk_andE (x &&& y) n (gv_msk n (by omega))
  refine ⟨j, hj, ?_⟩
  rw [← e, Int32.and_assoc, Int32.and_comm _ y, ← Int32.and_assoc]
theorem gv_step {post : Int32 → Prop} {L : Nat} {xs : Nat → Int32} {kc ks f j : Nat} {n : Nat} {l r : Nat → Nat} {c k c' k' : Int32} {a1 a2 a3 a4 b1 b2 b3 b4 : Nat → Int32} (hL : L ≤ 260) (hj : j < L)
    (h1 : gv_K n l r (c, k, a1, a2, a3, a4)) (h2 : gv_K n r l (c', k', b1, b2, b3, b4))
    (H : ∀ n l r c k a1 a2 a3 a4 c' k' b1 b2 b3 b4, gv_K n l r (c, k, a1, a2, a3, a4) → gv_K n r l (c', k', b1, b2, b3, b4) → wL_law_18 post L xs kc ks f (nI j + 1) c k a1 a2 a3 a4 c' k' b1 b2 b3 b4) :
    wL_law_18 post L xs kc ks (f + 1) (nI j) c k a1 a2 a3 a4 c' k' b1 b2 b3 b4 := by
  have hn1 : 1 ≤ n := h1.2.1.1
  have hn : n ≤ 10 := h1.2.1.2.1
  refine pk_le L j (fun z => absurd z (by omega)) (fun _ => And.intro (pk_in j L hj) (fun x4 _ => And.intro (pk_in j L hj) (fun x5 _ => gv_positions h1 (nm_e (br_c (fun _ => ?_) (fun _ => ?_))))))
  · refine gv_drop (l' := l) (r' := r) h1 (fun p _ => ⟨rfl, rfl⟩) (fun ne u1 h1 => ?_) (fun e1 => ?_)
    · obtain ⟨c, k, a1, a2, a3, a4⟩ := u1
      refine gv_drop (l' := r) (r' := l) h2 (fun p _ => ⟨rfl, rfl⟩) (fun _ u2 h2 => ?_) (fun z => absurd z ne)
      obtain ⟨c', k', b1, b2, b3, b4⟩ := u2
      exact br_t rfl (gv_235 h1 h2 (H _ _ _))
    · refine gv_drop (l' := r) (r' := l) h2 (fun p _ => ⟨rfl, rfl⟩) (fun ne u2 h2 => absurd e1 ne) (fun _ => ?_)
      exact br_t rfl (gv_235 h1 h2 (H _ _ _))
  · obtain ⟨a, ha, ea⟩ := gv_mask x5 ((x5 >>> ((10 : Int32) &&& 31)) ||| 3) hn
    obtain ⟨b, hb, eb⟩ := gv_mask (x5 >>> ((5 : Int32) &&& 31)) ((x5 >>> ((15 : Int32) &&& 31)) ||| 3) hn
    refine nm_r ea (nm_r eb ?_)
    refine gv_add h1 ha hb (fun hlt u1 h1 => ?_) (fun full => ?_)
    · obtain ⟨c, k, a1, a2, a3, a4⟩ := u1
      refine gv_add h2 hb ha (fun _ u2 h2 => ?_) (fun z => absurd z (by omega))
      obtain ⟨c', k', b1, b2, b3, b4⟩ := u2
      refine br_f (nI_pos (by omega)) (gv_dominated (sd := 0) rfl (by omega) h1 (by omega) (fun w u1 hw h1 => ?_))
      obtain ⟨c, k, a1, a2, a3, a4⟩ := u1
      exact gv_128 hlt ha hb h1 h2 hw H
    · refine gv_add h2 hb ha (fun z => absurd z (by omega)) (fun _ => br_t (by decide) ?_)
      unfold wL_law_128 wL_law_211
      exact br_t rfl (br_t rfl (gv_235 h1 h2 (H _ _ _)))
end
section
theorem gv_K1 : gv_K 1 (fun _ => 0) (fun _ => 0) (1, 0, (fun _ => 0), (fun _ => 0), (fun _ => 0), (fun _ => 0)) :=
  ⟨rfl, ⟨Nat.le_refl 1, by omega, fun p _ => ⟨Nat.pow_pos (by decide), Nat.pow_pos (by decide), rfl, rfl⟩⟩, fun _ => Or.inl rfl, fun _ => Or.inl rfl, fun t => absurd rfl t⟩
theorem i_vc (xs : Nat → Int32) (L : Nat) (hL : L ≤ 260) : wpL_law (fun r => r = 1) L xs := by
  unfold wpL_law wpX_init
  dsimp only
  refine ⟨4, 2020, by omega, by omega, by omega, by omega, by omega, by omega, by omega, by omega, by omega, by omega, by omega, by omega, 4, 2020, by omega, by omega, by omega, by omega, by omega, by omega, by omega, by omega, by omega, by omega, ?_⟩
  refine pk_loop (σ := St1 × St1) (fun f i s => wL_law_18 (fun r => r = 1) L xs _ _ f (nI i) s.1.1 s.1.2.1 s.1.2.2.1 s.1.2.2.2.1 s.1.2.2.2.2.1 s.1.2.2.2.2.2 s.2.1 s.2.2.1 s.2.2.2.1 s.2.2.2.2.1 s.2.2.2.2.2.1 s.2.2.2.2.2.2)
    (fun _ s => ∃ n l r, gv_K n l r s.1 ∧ gv_K n r l s.2) L 0 ((1, 0, (fun _ => 0), (fun _ => 0), (fun _ => 0), (fun _ => 0)), (1, 0, (fun _ => 0), (fun _ => 0), (fun _ => 0), (fun _ => 0))) (Nat.zero_le _) ⟨1, _, _, gv_K1, gv_K1⟩ ?_ ?_
  · intro f s _
    exact pk_le L L (fun _ => rfl) (fun z => absurd z (by omega))
  · intro f i s hi h hw
    obtain ⟨⟨c, k, a1, a2, a3, a4⟩, ⟨c', k', b1, b2, b3, b4⟩⟩ := s
    obtain ⟨n, l, r, h1, h2⟩ := h
    refine gv_step hL hi h1 h2 (fun n l r c k a1 a2 a3 a4 c' k' b1 b2 b3 b4 h1 h2 => ?_)
    rw [nI_1]
    exact hw ((c, k, a1, a2, a3, a4), (c', k', b1, b2, b3, b4)) ⟨n, l, r, h1, h2⟩
end
