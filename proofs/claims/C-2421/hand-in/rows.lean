section
/-! rows taken from the kit: rows to paste -/
theorem pk_us {f : Nat → Int32} {k : Nat} {x : Int32} : upd f k x k = x := if_pos rfl
theorem pk_un {f : Nat → Int32} {k j : Nat} {x : Int32} (h : j ≠ k) : upd f k x j = f j := if_neg h
theorem pk_sub {a b : Nat} (h : b ≤ a) : nI a - nI b = nI (a - b) := by
  obtain ⟨c, rfl⟩ : ∃ c, a = c + b := ⟨a - b, by omega⟩
  rw [← nI_add, Int32.add_sub_cancel, Nat.add_sub_cancel]
theorem pk_m1 (n : Nat) : nI (n + 1) + (-1) = nI n := by
  rw [← nI_1, Int32.add_assoc, show (1 : Int32) + (-1) = 0 from rfl, Int32.add_zero]
theorem pk_mul (a b : Nat) : nI a * nI b = nI (a * b) := (Int32.ofNat_mul a b).symm
theorem pk_div {a d : Nat} (ha : a < 2 ^ 31) (h0 : 0 < d) (hd : d < 2 ^ 31) : nI a / nI d = nI (a / d) := by
  apply Int32.toInt_inj.mp
  rw [lg_idiv_nonneg (by rw [nI_toInt ha]; omega) (by rw [nI_toInt hd]; omega), nI_toInt ha, nI_toInt hd, nI_toInt (Nat.lt_of_le_of_lt (Nat.div_le_self a d) ha)]
  first | rfl | exact (Int.natCast_ediv _ _).symm
theorem pk_rem {a d : Nat} (ha : a < 2 ^ 31) (h0 : 0 < d) (hd : d < 2 ^ 31) : nI a - nI a / nI d * nI d = nI (a % d) := by
  rw [pk_div ha h0 hd, pk_mul, pk_sub (Nat.div_mul_le_self a d)]
  exact congrArg nI (by have := Nat.div_add_mod' a d; omega)
theorem pk_ix (x : Int32) {n : Nat} (hn : n < 2 ^ 31) : x < 0 ∨ nI n ≤ x ∨ ∃ j : Nat, j < n ∧ x = nI j := by
  by_cases h : x < 0
  · exact Or.inl h
  · obtain ⟨j, hj, rfl⟩ := nI_of h
    by_cases h2 : j < n
    · exact Or.inr (Or.inr ⟨j, h2, rfl⟩)
    · exact Or.inr (Or.inl (nI_le (by omega) hj))
theorem pk_le {x y : Int32} {A B : Prop} (a b : Nat) (f : a ≤ b → A) (g : b < a → B) (hx : x = nI a := by rfl) (hy : y = nI b := by rfl) (ha : a < 2 ^ 31 := by omega) (hb : b < 2 ^ 31 := by omega) : (x ≤ y → A) ∧ (¬ x ≤ y → B) := by
  subst hx hy
  rw [nI_leI ha hb]
  exact ⟨f, fun z => g (by omega)⟩
theorem pk_lt {x y : Int32} {A B : Prop} (a b : Nat) (f : a < b → A) (g : b ≤ a → B) (hx : x = nI a := by rfl) (hy : y = nI b := by rfl) (ha : a < 2 ^ 31 := by omega) (hb : b < 2 ^ 31 := by omega) : (x < y → A) ∧ (¬ x < y → B) := by
  subst hx hy
  rw [nI_ltI ha hb]
  exact ⟨f, fun z => g (by omega)⟩
theorem pk_eq {x y : Int32} {A B : Prop} (a b : Nat) (f : a = b → A) (g : a ≠ b → B) (hx : x = nI a := by rfl) (hy : y = nI b := by rfl) (ha : a < 2 ^ 31 := by omega) (hb : b < 2 ^ 31 := by omega) : (x = y → A) ∧ (¬ x = y → B) := by
  subst hx hy
  rw [nI_eq ha hb]
  exact ⟨f, g⟩
theorem pk_in {x : Int32} (n N : Nat) (h : n < N) (hx : x = nI n := by rfl) (hN : N < 2 ^ 31 := by omega) : vp_in x N := by
  subst hx
  exact vp_in_nI h hN
theorem pk_cl {x : Int32} (n : Nat) (hx : x = nI n := by rfl) (h : n < 2 ^ 31 := by omega) : x.toNatClampNeg = n := by
  subst hx
  exact nI_clamp h
theorem pk_tn {n : Nat} (h : n < 2 ^ 32) : (nI n).toBitVec.toNat = n := Nat.mod_eq_of_lt h
theorem pk_and (x : Int32) {m : Int32} (k : Nat) (hm : m.toBitVec.toNat = 2 ^ k - 1) : x &&& m = nI (x.toBitVec.toNat % 2 ^ k) := by
  apply Int32.toBitVec_inj.mp
  apply BitVec.eq_of_toNat_eq
  rw [Int32.toBitVec_and, BitVec.toNat_and, hm, Nat.and_two_pow_sub_one_eq_mod]
  show _ = (BitVec.ofNat 32 _).toNat
  rw [BitVec.toNat_ofNat]
  exact (Nat.mod_eq_of_lt (Nat.lt_of_le_of_lt (Nat.mod_le _ _) x.toBitVec.isLt)).symm
theorem pk_andN {n : Nat} (h : n < 2 ^ 32) {m : Int32} (k : Nat) (hm : m.toBitVec.toNat = 2 ^ k - 1) : nI n &&& m = nI (n % 2 ^ k) := by
  rw [pk_and _ k hm, pk_tn h]
theorem pk_andE (x : Int32) {m : Int32} (k : Nat) (hm : m.toBitVec.toNat = 2 ^ k - 1) : ∃ j : Nat, j < 2 ^ k ∧ x &&& m = nI j := ⟨_, Nat.mod_lt _ (Nat.two_pow_pos k), pk_and x k hm⟩
theorem nx_and (a b : Nat) : nI a &&& nI b = nI (a &&& b) := by
  apply Int32.toBitVec_inj.1
  show BitVec.ofNat 32 a &&& BitVec.ofNat 32 b = BitVec.ofNat 32 (a &&& b)
  apply BitVec.eq_of_getLsbD_eq
  intro i hi
  simp [hi]
theorem nx_xor (a b : Nat) : nI a ^^^ nI b = nI (a ^^^ b) := by
  apply Int32.toBitVec_inj.1
  show BitVec.ofNat 32 a ^^^ BitVec.ofNat 32 b = BitVec.ofNat 32 (a ^^^ b)
  apply BitVec.eq_of_getLsbD_eq
  intro i hi
  simp [hi]
end
section
/-! truths as booleans; bits of worlds below 512 -/
noncomputable def qb_v (P : Prop) : Int32 := @ite Int32 P (Classical.propDecidable P) 1 0
theorem qb_t {P : Prop} (h : P) : qb_v P = 1 := by unfold qb_v; rw [if_pos h]
theorem qb_f {P : Prop} (h : ¬ P) : qb_v P = 0 := by unfold qb_v; rw [if_neg h]
theorem qb_0 {P : Prop} : qb_v P = 0 ↔ ¬ P := by
  rcases Classical.em P with h | h
  · rw [qb_t h]; exact ⟨fun e => absurd e (by decide), fun z => absurd h z⟩
  · rw [qb_f h]; exact ⟨fun _ => h, fun _ => rfl⟩
theorem qb_n0 {P : Prop} : qb_v P ≠ 0 ↔ P := by
  rcases Classical.em P with h | h
  · rw [qb_t h]; exact ⟨fun _ => h, fun _ => by decide⟩
  · rw [qb_f h]; exact ⟨fun z => absurd rfl z, fun z => absurd z h⟩
theorem qb_iff {P Q : Prop} (h : P ↔ Q) : qb_v P = qb_v Q := by rw [propext h]
theorem qb_eq {P Q : Prop} : qb_v P = qb_v Q ↔ (P ↔ Q) := by
  constructor
  · intro e
    have a : qb_v P ≠ 0 ↔ qb_v Q ≠ 0 := by rw [e]
    rw [qb_n0, qb_n0] at a
    exact a
  · exact qb_iff
theorem qb_nar1 : vp_nar .boolean 1 = 1 := rfl
theorem qb_nar0 : vp_nar .boolean 0 = 0 := rfl
theorem qa_pw : ∀ f, f < 10 → (1 : Int32) <<< (nI f &&& 31) = nI (2 ^ f) := by decide +kernel
theorem qa_bit : ∀ s, s < 512 → ∀ f, f < 9 → (nI s >>> (nI f &&& 31)) &&& 1 = if s.testBit f = true then 1 else 0 := by decide +kernel
theorem qa_clr : ∀ s, s < 512 → ∀ f, f < 9 → s.testBit f = true → nI s &&& (((1 : Int32) <<< (nI f &&& 31)) ^^^ (-1)) = nI (s ^^^ 2 ^ f) := by decide +kernel
theorem qa_or : ∀ s, s < 512 → ∀ f, f < 9 → nI s ||| ((1 : Int32) <<< (nI f &&& 31)) = nI (s ||| 2 ^ f) := by decide +kernel
theorem qa_xor : ∀ s, s < 512 → ∀ f, f < 9 → nI s ^^^ ((1 : Int32) <<< (nI f &&& 31)) = nI (s ^^^ 2 ^ f) := by decide +kernel
theorem qa_b1 {s f : Nat} (hs : s < 512) (hf : f < 9) : (nI s >>> (nI f &&& 31)) &&& 1 = 1 ↔ s.testBit f = true := by
  rw [qa_bit s hs f hf]
  cases s.testBit f
  · decide
  · decide
theorem qa_b0 {s f : Nat} (hs : s < 512) (hf : f < 9) : (nI s >>> (nI f &&& 31)) &&& 1 = 0 ↔ s.testBit f = false := by
  rw [qa_bit s hs f hf]
  cases s.testBit f
  · decide
  · decide
theorem qa_p9 {nf : Nat} (h : nf ≤ 9) : 2 ^ nf ≤ 512 := by
  have z : 2 ^ nf ≤ 2 ^ 9 := Nat.pow_le_pow_right (by decide) h
  exact z
theorem qa_512 {nf s : Nat} (h : nf ≤ 9) (hs : s < 2 ^ nf) : s < 512 := Nat.lt_of_lt_of_le hs (qa_p9 h)
theorem qa_plt {f nf : Nat} (hf : f < nf) : 2 ^ f < 2 ^ nf := Nat.pow_lt_pow_right (by decide) hf
theorem qa_xlt {s f nf : Nat} (hs : s < 2 ^ nf) (hf : f < nf) : s ^^^ 2 ^ f < 2 ^ nf := Nat.xor_lt_two_pow hs (qa_plt hf)
theorem qa_olt {s f nf : Nat} (hs : s < 2 ^ nf) (hf : f < nf) : s ||| 2 ^ f < 2 ^ nf := Nat.or_lt_two_pow hs (qa_plt hf)
theorem qa_toS (s f : Nat) : (s ||| 2 ^ f).testBit f = true := by rw [Nat.testBit_or, Nat.testBit_two_pow_self, Bool.or_true]
theorem qa_toN {s f j : Nat} (h : f ≠ j) : (s ||| 2 ^ f).testBit j = s.testBit j := by rw [Nat.testBit_or, Nat.testBit_two_pow_of_ne h, Bool.or_false]
theorem qa_toL {s f j : Nat} (h : s.testBit j = true) : (s ||| 2 ^ f).testBit j = true := by rw [Nat.testBit_or, h, Bool.true_or]
theorem qa_txS (s f : Nat) : (s ^^^ 2 ^ f).testBit f = !(s.testBit f) := by
  rw [Nat.testBit_xor, Nat.testBit_two_pow_self]
  cases s.testBit f <;> rfl
theorem qa_txN {s f j : Nat} (h : f ≠ j) : (s ^^^ 2 ^ f).testBit j = s.testBit j := by rw [Nat.testBit_xor, Nat.testBit_two_pow_of_ne h, Bool.xor_false]
theorem qa_xlsT : ∀ s, s < 512 → ∀ f, f < 9 → s.testBit f = true → s ^^^ 2 ^ f < s := by decide +kernel
theorem qa_xls {s f : Nat} (hs : s < 512) (hf : f < 9) (h : s.testBit f = true) : s ^^^ 2 ^ f < s := qa_xlsT s hs f hf h
theorem qa_tlt {s f nf : Nat} (hs : s < 2 ^ nf) (h : s.testBit f = true) : f < nf := by
  rcases Nat.lt_or_ge f nf with z | z
  · exact z
  · have h2 : s < 2 ^ f := Nat.lt_of_lt_of_le hs (Nat.pow_le_pow_right (by decide) z)
    rw [Nat.testBit_lt_two_pow h2] at h
    cases h
theorem qa_le {nf i : Nat} (h : nf ≤ 9) (h2 : 2 ^ nf ≤ i) (hi : i < 2 ^ 31) : (1 : Int32) <<< (nI nf &&& 31) ≤ nI i := by
  rw [qa_pw nf (by omega)]
  exact nI_le h2 hi
theorem qa_nle {nf i : Nat} (h : nf ≤ 9) (h2 : i < 2 ^ nf) : ¬ (1 : Int32) <<< (nI nf &&& 31) ≤ nI i := by
  rw [qa_pw nf (by omega)]
  exact nI_ge h2 (Nat.lt_of_le_of_lt (qa_p9 h) (by decide))
theorem qa_in {s : Nat} (h : s < 512) : vp_in (nI s) 512 := vp_in_nI h (by decide)
theorem qa_cl {s : Nat} (h : s < 512) : (nI s).toNatClampNeg = s := nI_clamp (Nat.lt_trans h (by decide))
theorem qa_uself {f : Nat → Int32} (k : Nat) : upd f k (f k) = f := by
  funext j
  by_cases h : j = k
  · rw [h, pk_us]
  · rw [pk_un h]
end
section
/-! X: fits, release, advance, factsOfMatch -/
/-- a place of a condition: a variable 0 .. 2, or a fixed node 8 .. 13 -/
def qp_pl (p : Int32) : Prop := ∃ j : Nat, p = nI j ∧ (j < 3 ∨ (8 ≤ j ∧ j < 14))
def qp_nd (a : Int32) : Prop := ∃ j : Nat, a = nI j ∧ j < 6
/-- what fits does to the values -/
def q_fit (V : Nat → Int32) (p a : Int32) : Option (Nat → Int32) :=
  if p < 8 then (if V p.toNatClampNeg = -1 then some (upd V p.toNatClampNeg a) else if V p.toNatClampNeg = a then some V else none)
  else if p - 8 = a then some V else none
/-- what a fact tried at a level does to the values -/
def q_try (aF aT aL qL qF qT : Nat → Int32) (l f : Nat) (V : Nat → Int32) : Option (Nat → Int32) :=
  if aL f = qL l then (q_fit V (qF l) (aF f)).bind (fun V1 => q_fit V1 (qT l) (aT f)) else none
/-- W is V but for the variables of the mask b, which are free in V -/
def q_rel (V W : Nat → Int32) (b : Int32) : Prop := ∃ k : Nat, k < 8 ∧ b = nI k ∧ ∀ v : Nat, (v < 3 ∧ k.testBit v = true → V v = -1) ∧ (¬ (v < 3 ∧ k.testBit v = true) → W v = V v)
theorem q_rel0 (V : Nat → Int32) : q_rel V V 0 := ⟨0, by decide, rfl, fun v => ⟨fun h => by rw [Nat.zero_testBit] at h; exact absurd h.2 (by decide), fun _ => rfl⟩⟩
theorem q_msk : ∀ k, k < 8 → ∀ j, j < 3 → nI k ||| ((1 : Int32) <<< (nI j &&& 31)) = nI (k ||| 2 ^ j) ∧ k ||| 2 ^ j < 8 := by decide +kernel
theorem q_relB {V W : Nat → Int32} {b a : Int32} {j : Nat} (h : q_rel V W b) (hj : j < 3) (hw : W j = -1) : q_rel V (upd W j a) (b ||| ((1 : Int32) <<< (nI j &&& 31))) := by
  obtain ⟨k, hk, rfl, h⟩ := h
  refine ⟨k ||| 2 ^ j, (q_msk k hk j hj).2, (q_msk k hk j hj).1, fun v => ⟨fun hv => ?_, fun hv => ?_⟩⟩
  · by_cases e : j = v
    · subst e
      by_cases hkv : k.testBit j = true
      · exact (h j).1 ⟨hj, hkv⟩
      · rw [← (h j).2 (fun z => hkv z.2)]
        exact hw
    · rw [qa_toN e] at hv
      exact (h v).1 hv
  · have e : v ≠ j := by
      intro e
      subst e
      exact hv ⟨hj, qa_toS _ _⟩
    rw [pk_un e]
    exact (h v).2 (fun z => hv ⟨z.1, qa_toL z.2⟩)
theorem q_lt8 {j : Nat} (h : j < 8) : nI j < 8 := nI_lt (b := 8) h (by decide)
theorem q_nlt8 {j : Nat} (h : 8 ≤ j) (h2 : j < 14) : ¬ nI j < 8 := nI_nlt (b := 8) h (by omega)
section
variable {nf nc : Nat} {rd : Int32} {aF aT aL aN qL qF qT tr bd vl mt ys fd : Nat → Int32}
theorem xw_fits {post : Int32 → SX → Prop} {l : Nat} {p a : Int32} {V : Nat → Int32} (hl : l < 4) (hp : qp_pl p) (hR : q_rel V vl (bd l))
    (h1 : ∀ bd' vl', q_fit vl p a = some vl' → (∀ c, c ≠ l → bd' c = bd c) → q_rel V vl' (bd' l) → post 1 (nI nf, nI nc, rd, aF, aT, aL, aN, qL, qF, qT, tr, bd', vl', mt, ys, fd))
    (h0 : q_fit vl p a = none → post 0 (nI nf, nI nc, rd, aF, aT, aL, aN, qL, qF, qT, tr, bd, vl, mt, ys, fd)) : wpX_fits post (nI nf, nI nc, rd, aF, aT, aL, aN, qL, qF, qT, tr, bd, vl, mt, ys, fd) (nI l) p a := by
  obtain ⟨j, rfl, hj⟩ := hp
  have hl5 : vp_in (nI l) 5 := vp_in_nI (by omega) (by decide)
  have cl : (nI l).toNatClampNeg = l := nI_clamp (by omega)
  rcases hj with hj | ⟨hj, hj2⟩
  · have h8 : nI j < 8 := q_lt8 (by omega)
    have hi : vp_in (nI j) 3 := vp_in_nI hj (by decide)
    have cj : (nI j).toNatClampNeg = j := nI_clamp (by omega)
    by_cases z : vl (nI j).toNatClampNeg = -1
    · refine br_t h8 ⟨hi, br_t z ⟨hi, nm_r (e' := upd vl j a) (by rw [cj]) ⟨hl5, hl5, nm_r (e' := upd bd l (bd l ||| ((1 : Int32) <<< (nI j &&& 31)))) (by rw [cl]) ?_⟩⟩⟩
      refine h1 _ _ ?_ (fun c hc => pk_un hc) ?_
      · unfold q_fit
        rw [if_pos h8, if_pos z, cj]
      · rw [pk_us]
        rw [cj] at z
        exact q_relB hR hj z
    · by_cases y : vl (nI j).toNatClampNeg = a
      · refine br_t h8 ⟨hi, br_f z ⟨hi, br_t y ?_⟩⟩
        refine h1 bd vl ?_ (fun c hc => rfl) hR
        unfold q_fit
        rw [if_pos h8, if_neg z, if_pos y]
      · refine br_t h8 ⟨hi, br_f z ⟨hi, br_f y ?_⟩⟩
        refine h0 ?_
        unfold q_fit
        rw [if_pos h8, if_neg z, if_neg y]
  · have h8 : ¬ nI j < 8 := q_nlt8 hj hj2
    by_cases y : nI j - 8 = a
    · refine br_f h8 (br_t y ?_)
      refine h1 bd vl ?_ (fun c hc => rfl) hR
      unfold q_fit
      rw [if_neg h8, if_pos y]
    · refine br_f h8 (br_f y ?_)
      refine h0 ?_
      unfold q_fit
      rw [if_neg h8, if_neg y]
theorem xw_rel_lp {post : SX → Prop} {l k : Nat} {V : Nat → Int32} (hl : l < 5) (hk : k < 8) (hb : bd l = nI k) (hV : ∀ v : Nat, v < 3 → k.testBit v = true → V v = -1)
    (K : post (nI nf, nI nc, rd, aF, aT, aL, aN, qL, qF, qT, tr, upd bd l 0, V, mt, ys, fd)) : ∀ d i : Nat, i + d = 3 → ∀ vl : Nat → Int32, (∀ v, v < i → vl v = V v) → (∀ v, i ≤ v → ¬ (v < 3 ∧ k.testBit v = true) → vl v = V v) →
    wX_release_2 post (nI l) (nI nf) (nI nc) rd (d + 1) (nI i) aF aT aL aN qL qF qT tr bd vl mt ys fd := by
  have hl5 : vp_in (nI l) 5 := vp_in_nI hl (by decide)
  have cl : (nI l).toNatClampNeg = l := nI_clamp (by omega)
  intro d
  induction d with
  | zero =>
    intro i hi vl h1 h2
    have e : vl = V := by
      funext v
      rcases Nat.lt_or_ge v i with z | z
      · exact h1 v z
      · exact h2 v z (fun y => by omega)
    subst e
    exact br_t (nI_le (a := 3) (by omega) (by omega)) ⟨hl5, nm_r (e' := upd bd l 0) (by rw [cl]) K⟩
  | succ d ih =>
    intro i hi vl h1 h2
    have c3 : ¬ (3 : Int32) ≤ nI i := nI_ge (b := 3) (by omega) (by decide)
    have hi3 : vp_in (nI i) 3 := vp_in_nI (by omega) (by decide)
    have ci : (nI i).toNatClampNeg = i := nI_clamp (by omega)
    have hb' : (bd (nI l).toNatClampNeg >>> (nI i &&& 31)) &&& 1 = 1 ↔ k.testBit i = true := by
      rw [cl, hb]
      exact qa_b1 (by omega) (by omega)
    by_cases z : k.testBit i = true
    · refine br_f c3 ⟨hl5, br_t (hb'.mpr z) ⟨hi3, nm_r (e' := upd vl i (-1)) (by rw [ci]) (nm_r (nI_1 i) ?_)⟩⟩
      refine ih (i + 1) (by omega) _ ?_ ?_
      · intro v hv
        by_cases e : v = i
        · rw [e, pk_us]; exact (hV i (by omega) z).symm
        · rw [pk_un e]; exact h1 v (by omega)
      · intro v hv y
        rw [pk_un (by omega)]
        exact h2 v (by omega) y
    · refine br_f c3 ⟨hl5, br_f (fun y => z (hb'.mp y)) (nm_r (nI_1 i) ?_)⟩
      refine ih (i + 1) (by omega) _ ?_ ?_
      · intro v hv
        by_cases e : v = i
        · rw [e]; exact h2 i (Nat.le_refl _) (fun y => z y.2)
        · exact h1 v (by omega)
      · intro v hv y
        exact h2 v (by omega) y
theorem xw_rel {post : SX → Prop} {l : Nat} {V : Nat → Int32} (hl : l < 5) (hR : q_rel V vl (bd l)) (K : post (nI nf, nI nc, rd, aF, aT, aL, aN, qL, qF, qT, tr, upd bd l 0, V, mt, ys, fd)) : wpX_release post (nI nf, nI nc, rd, aF, aT, aL, aN, qL, qF, qT, tr, bd, vl, mt, ys, fd) (nI l) := by
  obtain ⟨k, hk, hb, h⟩ := hR
  exact Exists.intro 4 (xw_rel_lp hl hk hb (fun v hv z => (h v).1 ⟨hv, z⟩) K 3 0 rfl vl (fun v hv => by omega) (fun v _ hv => (h v).2 hv))
theorem xw_adv84 {post : Int32 → SX → Prop} {J : Int32 → Int32 → Int32 → Int32 → (Nat → Int32) → (Nat → Int32) → (Nat → Int32) → (Nat → Int32) → (Nat → Int32) → (Nat → Int32) → (Nat → Int32) → (Nat → Int32) → (Nat → Int32) → (Nat → Int32) → (Nat → Int32) → (Nat → Int32) → (Nat → Int32) → Prop} {l f : Nat} {V : Nat → Int32} (hl : l < 5) (hR : q_rel V vl (bd l))
    (K : J (nI (f + 1)) (nI nf) (nI nc) rd aF aT aL aN qL qF qT tr (upd bd l 0) V mt ys fd) : wX_advance_84 post J (nI l) (nI f) 0 (nI nf) (nI nc) rd aF aT aL aN qL qF qT tr bd vl mt ys fd :=
  br_t rfl (xw_rel hl hR (nm_r (nI_1 f) K))
theorem xw_adv_lp {post : Int32 → SX → Prop} {l : Nat} {V : Nat → Int32} (hl : l < 4) (hnf : nf ≤ 9) (hp1 : qp_pl (qF l)) (hp2 : qp_pl (qT l)) :
    ∀ d f : Nat, f + d = nf → ∀ tr bd : Nat → Int32, bd l = 0 →
    ((∀ g, f ≤ g → g < nf → q_try aF aT aL qL qF qT l g V = none) → ∀ tr' bd' : Nat → Int32, (∀ c, c ≠ l → tr' c = tr c) → (∀ c, c ≠ l → bd' c = bd c) → bd' l = 0 → post 0 (nI nf, nI nc, rd, aF, aT, aL, aN, qL, qF, qT, tr', bd', V, mt, ys, fd)) →
    (∀ g V', f ≤ g → g < nf → (∀ g', f ≤ g' → g' < g → q_try aF aT aL qL qF qT l g' V = none) → q_try aF aT aL qL qF qT l g V = some V' → ∀ tr' bd' : Nat → Int32, (∀ c, c ≠ l → tr' c = tr c) → (∀ c, c ≠ l → bd' c = bd c) → tr' l = nI g → q_rel V V' (bd' l) → post 1 (nI nf, nI nc, rd, aF, aT, aL, aN, qL, qF, qT, tr', bd', V', mt, ys, fd)) →
    wX_advance_14 post (nI l) (d + 1) (nI f) (nI nf) (nI nc) rd aF aT aL aN qL qF qT tr bd V mt ys fd := by
  have hl5 : vp_in (nI l) 5 := vp_in_nI (by omega) (by decide)
  have hl4 : vp_in (nI l) 4 := vp_in_nI hl (by decide)
  have cl : (nI l).toNatClampNeg = l := nI_clamp (by omega)
  intro d
  induction d with
  | zero =>
    intro f hf tr bd hb h0 h1
    exact br_t (nI_le (by omega) (by omega)) (h0 (fun g a b => by omega) tr bd (fun c _ => rfl) (fun c _ => rfl) hb)
  | succ d ih =>
    intro f hf tr bd hb h0 h1
    have c1 : ¬ nI nf ≤ nI f := nI_ge (by omega) (by omega)
    have hf9 : vp_in (nI f) 9 := vp_in_nI (by omega) (by decide)
    have cf : (nI f).toNatClampNeg = f := nI_clamp (by omega)
    have NEXT : q_try aF aT aL qL qF qT l f V = none → ∀ bd' : Nat → Int32, (∀ c, c ≠ l → bd' c = bd c) → bd' l = 0 → wX_advance_14 post (nI l) (d + 1) (nI (f + 1)) (nI nf) (nI nc) rd aF aT aL aN qL qF qT (upd tr l (nI f)) bd' V mt ys fd := by
      intro hn bd' hbd hb'
      refine ih (f + 1) (by omega) _ bd' hb' ?_ ?_
      · intro hh tr' bd'' e1 e2 e3
        refine h0 ?_ tr' bd'' ?_ ?_ e3
        · intro g a b
          by_cases e : g = f
          · rw [e]; exact hn
          · exact hh g (by omega) b
        · intro c hc
          rw [e1 c hc, pk_un hc]
        · intro c hc
          rw [e2 c hc, hbd c hc]
      · intro g V' a b hh hs tr' bd'' e1 e2 e3 e4
        refine h1 g V' (by omega) b ?_ hs tr' bd'' ?_ ?_ e3 e4
        · intro g' a' b'
          by_cases e : g' = f
          · rw [e]; exact hn
          · exact hh g' (by omega) b'
        · intro c hc
          rw [e1 c hc, pk_un hc]
        · intro c hc
          rw [e2 c hc, hbd c hc]
    refine br_f c1 ⟨hl5, nm_r (e' := upd tr l (nI f)) (by rw [cl]) ⟨hf9, hl4, ?_⟩⟩
    by_cases z : aL f = qL l
    · have z' : aL (nI f).toNatClampNeg = qL (nI l).toNatClampNeg := by rw [cf, cl]; exact z
      refine br_t z' ⟨hl4, hf9, ?_⟩
      rw [cf, cl]
      refine xw_fits (V := V) hl hp1 (by rw [hb]; exact q_rel0 V) ?_ ?_
      · intro bd1 V1 hs1 e1 r1
        refine br_f (by decide) ⟨hl4, hf9, ?_⟩
        try rw [cf]
        try rw [cl]
        refine xw_fits (V := V) hl hp2 r1 ?_ ?_
        · intro bd2 V2 hs2 e2 r2
          refine br_f (by decide) ?_
          refine h1 f V2 (Nat.le_refl _) (by omega) (fun g' a' b' => by omega) ?_ _ bd2 (fun c hc => pk_un hc) ?_ pk_us r2
          · unfold q_try
            rw [if_pos z, hs1]
            exact hs2
          · intro c hc
            rw [e2 c hc, e1 c hc]
        · intro hs2
          refine xw_adv84 (V := V) (by omega) r1 ?_
          refine NEXT ?_ _ ?_ pk_us
          · unfold q_try
            rw [if_pos z, hs1]
            exact hs2
          · intro c hc
            rw [pk_un hc, e1 c hc]
      · intro hs1
        refine br_t rfl ?_
        refine xw_adv84 (V := V) (by omega) (by rw [hb]; exact q_rel0 V) ?_
        refine NEXT ?_ _ ?_ pk_us
        · unfold q_try
          rw [if_pos z, hs1]
          rfl
        · intro c hc
          rw [pk_un hc]
    · have z' : ¬ aL (nI f).toNatClampNeg = qL (nI l).toNatClampNeg := by rw [cf, cl]; exact z
      refine br_f z' (nm_r (nI_1 f) ?_)
      refine NEXT ?_ bd (fun c _ => rfl) hb
      unfold q_try
      rw [if_neg z]
theorem xw_adv {post : Int32 → SX → Prop} {l t : Nat} {V : Nat → Int32} (hl : l < 4) (hnf : nf ≤ 9) (ht : t ≤ nf) (hp1 : qp_pl (qF l)) (hp2 : qp_pl (qT l)) (hR : q_rel V vl (bd l)) (htr : tr l + 1 = nI t)
    (h0 : (∀ g, t ≤ g → g < nf → q_try aF aT aL qL qF qT l g V = none) → ∀ tr' bd' : Nat → Int32, (∀ c, c ≠ l → tr' c = tr c) → (∀ c, c ≠ l → bd' c = bd c) → post 0 (nI nf, nI nc, rd, aF, aT, aL, aN, qL, qF, qT, tr', bd', V, mt, ys, fd))
    (h1 : ∀ g V', t ≤ g → g < nf → (∀ g', t ≤ g' → g' < g → q_try aF aT aL qL qF qT l g' V = none) → q_try aF aT aL qL qF qT l g V = some V' → ∀ tr' bd' : Nat → Int32, (∀ c, c ≠ l → tr' c = tr c) → (∀ c, c ≠ l → bd' c = bd c) → tr' l = nI g → q_rel V V' (bd' l) → post 1 (nI nf, nI nc, rd, aF, aT, aL, aN, qL, qF, qT, tr', bd', V', mt, ys, fd)) :
    wpX_advance post (nI nf, nI nc, rd, aF, aT, aL, aN, qL, qF, qT, tr, bd, vl, mt, ys, fd) (nI l) := by
  have hl5 : vp_in (nI l) 5 := vp_in_nI (by omega) (by decide)
  have cl : (nI l).toNatClampNeg = l := nI_clamp (by omega)
  refine xw_rel (V := V) (by omega) hR ⟨hl5, nm_r (e' := nI t) (by rw [cl]; exact htr) (Exists.intro (nf - t + 1) ?_)⟩
  refine xw_adv_lp hl hnf hp1 hp2 (nf - t) t (by omega) tr (upd bd l 0) pk_us ?_ ?_
  · intro hh tr' bd' e1 e2 e3
    exact h0 hh tr' bd' e1 (fun c hc => by rw [e2 c hc, pk_un hc])
  · intro g V' a b hh hs tr' bd' e1 e2 e3 e4
    exact h1 g V' a b hh hs tr' bd' e1 (fun c hc => by rw [e2 c hc, pk_un hc]) e3 e4
/-- the set of the facts tried so far -/
def qo_m (tr : Nat → Int32) : Nat → Nat
  | 0 => 0
  | k + 1 => qo_m tr k ||| 2 ^ (tr k).toNatClampNeg
theorem qo_cong {tr tr' : Nat → Int32} : ∀ {k : Nat}, (∀ c, c < k → tr' c = tr c) → qo_m tr' k = qo_m tr k
  | 0, _ => rfl
  | k + 1, h => by
    show qo_m tr' k ||| _ = qo_m tr k ||| _
    rw [qo_cong (fun c hc => h c (by omega)), h k (by omega)]
theorem qo_lt {tr : Nat → Int32} (hnf : nf ≤ 9) : ∀ {k : Nat}, (∀ c, c < k → ∃ g, g < nf ∧ tr c = nI g) → qo_m tr k < 2 ^ nf
  | 0, _ => Nat.two_pow_pos nf
  | k + 1, h => by
    obtain ⟨g, hg, e⟩ := h k (by omega)
    show qo_m tr k ||| 2 ^ (tr k).toNatClampNeg < 2 ^ nf
    rw [e, nI_clamp (by omega)]
    exact qa_olt (qo_lt hnf (fun c hc => h c (by omega))) hg
theorem xw_fom_lp {post : Int32 → Prop} (hnf : nf ≤ 9) (hnc : nc ≤ 4) (h : ∀ c, c < nc → ∃ g, g < nf ∧ tr c = nI g) (K : post (nI (qo_m tr nc))) :
    ∀ d i : Nat, i + d = nc → wX_factsOfMatch_4 post (nI nf) (nI nc) rd aF aT aL aN qL qF qT tr bd vl mt ys fd (d + 1) (nI (qo_m tr i)) (nI i) := by
  intro d
  induction d with
  | zero =>
    intro i hi
    have e : i = nc := by omega
    subst e
    exact br_t (nI_le (Nat.le_refl _) (by omega)) K
  | succ d ih =>
    intro i hi
    have c1 : ¬ nI nc ≤ nI i := nI_ge (by omega) (by omega)
    have hi5 : vp_in (nI i) 5 := vp_in_nI (by omega) (by decide)
    have ci : (nI i).toNatClampNeg = i := nI_clamp (by omega)
    obtain ⟨g, hg, e⟩ := h i (by omega)
    have l5 : qo_m tr i < 512 := qa_512 hnf (qo_lt hnf (fun c hc => h c (by omega)))
    refine br_f c1 ⟨hi5, nm_r (e' := nI (qo_m tr (i + 1))) ?_ (nm_r (nI_1 i) (ih (i + 1) (by omega)))⟩
    rw [ci, e, qa_or _ l5 g (by omega)]
    show _ = nI (qo_m tr i ||| 2 ^ (tr i).toNatClampNeg)
    rw [e, nI_clamp (by omega)]
theorem xw_fom {post : Int32 → Prop} (hnf : nf ≤ 9) (hnc : nc ≤ 4) (h : ∀ c, c < nc → ∃ g, g < nf ∧ tr c = nI g) (K : post (nI (qo_m tr nc))) : wpX_factsOfMatch post (nI nf, nI nc, rd, aF, aT, aL, aN, qL, qF, qT, tr, bd, vl, mt, ys, fd) :=
  Exists.intro (nc + 1) (xw_fom_lp hnf hnc h K nc 0 (by omega))
end
end
section
/-! X: findMatches. q_E: the sets of facts of the matches that go on from a level -/
section
variable {nf nc : Nat} {rd : Int32} {aF aT aL aN qL qF qT tr bd vl mt ys fd : Nat → Int32}
def q_E (nf : Nat) (aF aT aL qL qF qT : Nat → Int32) : Nat → Nat → (Nat → Int32) → Nat → Nat → Prop
  | 0, _, _, m, s => s = m
  | d + 1, l, V, m, s => ∃ f, f < nf ∧ ∃ V', q_try aF aT aL qL qF qT l f V = some V' ∧ q_E nf aF aT aL qL qF qT d (l + 1) V' (m ||| 2 ^ f) s
/-- the same with the first level's fact at t or behind it; d levels are behind the first -/
def q_EF (nf : Nat) (aF aT aL qL qF qT : Nat → Int32) (d l t : Nat) (V : Nat → Int32) (m s : Nat) : Prop :=
  ∃ f, t ≤ f ∧ f < nf ∧ ∃ V', q_try aF aT aL qL qF qT l f V = some V' ∧ q_E nf aF aT aL qL qF qT d (l + 1) V' (m ||| 2 ^ f) s
theorem q_EF0 {d l m s : Nat} {V : Nat → Int32} : q_EF nf aF aT aL qL qF qT d l 0 V m s ↔ q_E nf aF aT aL qL qF qT (d + 1) l V m s :=
  ⟨fun ⟨f, _, h⟩ => ⟨f, h⟩, fun ⟨f, h⟩ => ⟨f, Nat.zero_le _, h⟩⟩
theorem q_EFn {d l t m s : Nat} {V : Nat → Int32} (h : ∀ g, t ≤ g → g < nf → q_try aF aT aL qL qF qT l g V = none) : ¬ q_EF nf aF aT aL qL qF qT d l t V m s := by
  rintro ⟨f, h1, h2, V', h3, _⟩
  rw [h f h1 h2] at h3
  cases h3
theorem q_EFs {d l t g m s : Nat} {V V' : Nat → Int32} (ht : t ≤ g) (hg : g < nf) (h : ∀ g', t ≤ g' → g' < g → q_try aF aT aL qL qF qT l g' V = none) (hs : q_try aF aT aL qL qF qT l g V = some V') :
    q_EF nf aF aT aL qL qF qT d l t V m s ↔ (q_E nf aF aT aL qL qF qT d (l + 1) V' (m ||| 2 ^ g) s ∨ q_EF nf aF aT aL qL qF qT d l (g + 1) V m s) := by
  constructor
  · rintro ⟨f, h1, h2, W, h3, h4⟩
    rcases Nat.lt_trichotomy f g with z | z | z
    · rw [h f h1 z] at h3
      cases h3
    · subst z
      rw [hs] at h3
      cases h3
      exact Or.inl h4
    · exact Or.inr ⟨f, z, h2, W, h3, h4⟩
  · rintro (h4 | ⟨f, h1, h2, h3⟩)
    · exact ⟨g, ht, hg, V', hs, h4⟩
    · exact ⟨f, by omega, h2, h3⟩
/-- steps that one fact at a level with d levels behind it can take -/
def qk_c : Nat → Nat
  | 0 => 1
  | d + 1 => 9 * qk_c d + 2
/-- a level's run, from the fact t on -/
def q_LV (nf nc : Nat) (rd : Int32) (aF aT aL aN qL qF qT ys fd : Nat → Int32) (post : SX → Prop) (d l : Nat) : Prop :=
  ∀ (e t : Nat) (V tr bd vl mt : Nat → Int32) (n st : Nat) (M : Nat → Prop), t + e = nf → tr l + 1 = nI t → q_rel V vl (bd l) → (∀ c, c < l → ∃ g, g < nf ∧ tr c = nI g) → (∀ s, s < 512 → (mt s ≠ 0 ↔ M s)) → n + st = 40001 → st + e * qk_c d + 1 ≤ 40000 →
  (∀ (tr' bd' mt' : Nat → Int32) (n' st' : Nat), (∀ c, c < l → tr' c = tr c) → (∀ c, c < l → bd' c = bd c) → (∀ s, s < 512 → (mt' s ≠ 0 ↔ (M s ∨ q_EF nf aF aT aL qL qF qT d l t V (qo_m tr l) s))) → n' + st' = 40001 → st' ≤ st + e * qk_c d + 1 →
    wX_findMatches_75 post n' (nI l + (-1)) (nI st') (nI nf) (nI nc) rd aF aT aL aN qL qF qT tr' bd' V mt' ys fd) →
  wX_findMatches_75 post n (nI l) (nI st) (nI nf) (nI nc) rd aF aT aL aN qL qF qT tr bd vl mt ys fd
theorem xw_lev1 {post : SX → Prop} {d l : Nat} (hnf : nf ≤ 9) (hnc : nc ≤ 4) (hd : l + d + 1 = nc) (hpl : ∀ c, c < nc → qp_pl (qF c) ∧ qp_pl (qT c))
    (ihd : ∀ d', d = d' + 1 → q_LV nf nc rd aF aT aL aN qL qF qT ys fd post d' (l + 1)) : q_LV nf nc rd aF aT aL aN qL qF qT ys fd post d l := by
  have key : ∀ E e : Nat, e ≤ E → ∀ (t : Nat) (V tr bd vl mt : Nat → Int32) (n st : Nat) (M : Nat → Prop), t + e = nf → tr l + 1 = nI t → q_rel V vl (bd l) → (∀ c, c < l → ∃ g, g < nf ∧ tr c = nI g) → (∀ s, s < 512 → (mt s ≠ 0 ↔ M s)) → n + st = 40001 → st + e * qk_c d + 1 ≤ 40000 →
      (∀ (tr' bd' mt' : Nat → Int32) (n' st' : Nat), (∀ c, c < l → tr' c = tr c) → (∀ c, c < l → bd' c = bd c) → (∀ s, s < 512 → (mt' s ≠ 0 ↔ (M s ∨ q_EF nf aF aT aL qL qF qT d l t V (qo_m tr l) s))) → n' + st' = 40001 → st' ≤ st + e * qk_c d + 1 →
        wX_findMatches_75 post n' (nI l + (-1)) (nI st') (nI nf) (nI nc) rd aF aT aL aN qL qF qT tr' bd' V mt' ys fd) →
      wX_findMatches_75 post n (nI l) (nI st) (nI nf) (nI nc) rd aF aT aL aN qL qF qT tr bd vl mt ys fd := by
    intro E
    induction E with
    | zero =>
      intro e he t V tr bd vl mt n st M hte htr hR hg hM hn hst K
      obtain ⟨k, rfl⟩ : ∃ k, n = k + 1 := ⟨n - 1, by omega⟩
      have c1 : ¬ (40000 : Int32) ≤ nI st := nI_ge (b := 40000) (by omega) (by decide)
      have c2 : ¬ nI l < 0 := nI_pos (by omega)
      refine br_f c1 (br_f c2 ?_)
      refine xw_adv (V := V) (t := t) (by omega) hnf (by omega) (hpl l (by omega)).1 (hpl l (by omega)).2 hR htr ?_ ?_
      · intro hh tr' bd' e1 e2
        refine br_t rfl (nm_e (nm_r (nI_1 st) ?_))
        refine K tr' bd' mt k (st + 1) (fun c hc => e1 c (by omega)) (fun c hc => e2 c (by omega)) ?_ (by omega) (by omega)
        intro s hs
        rw [hM s hs]
        exact ⟨Or.inl, fun z => z.elim id (fun y => absurd y (q_EFn hh))⟩
      · intro g V' a b
        exact absurd b (by omega)
    | succ E ih =>
      intro e he t V tr bd vl mt n st M hte htr hR hg hM hn hst K
      obtain ⟨k, rfl⟩ : ∃ k, n = k + 1 := ⟨n - 1, by omega⟩
      have c1 : ¬ (40000 : Int32) ≤ nI st := nI_ge (b := 40000) (by omega) (by decide)
      have c2 : ¬ nI l < 0 := nI_pos (by omega)
      refine br_f c1 (br_f c2 ?_)
      refine xw_adv (V := V) (t := t) (by omega) hnf (by omega) (hpl l (by omega)).1 (hpl l (by omega)).2 hR htr ?_ ?_
      · intro hh tr' bd' e1 e2
        refine br_t rfl (nm_e (nm_r (nI_1 st) ?_))
        refine K tr' bd' mt k (st + 1) (fun c hc => e1 c (by omega)) (fun c hc => e2 c (by omega)) ?_ (by omega) (by omega)
        intro s hs
        rw [hM s hs]
        exact ⟨Or.inl, fun z => z.elim id (fun y => absurd y (q_EFn hh))⟩
      · intro g V' htg hgn hh hs tr' bd' e1 e2 e3 e4
        have om : qo_m tr' l = qo_m tr l := qo_cong (fun c hc => e1 c (by omega))
        have om1 : qo_m tr' (l + 1) = qo_m tr l ||| 2 ^ g := by
          show qo_m tr' l ||| 2 ^ (tr' l).toNatClampNeg = _
          rw [om, e3, nI_clamp (by omega)]
        have hg' : ∀ c, c < l + 1 → ∃ g, g < nf ∧ tr' c = nI g := by
          intro c hc
          by_cases e : c = l
          · rw [e]; exact ⟨g, hgn, e3⟩
          · rw [e1 c e]; exact hg c (by omega)
        obtain ⟨e', he'⟩ : ∃ e', g + 1 + e' = nf := ⟨nf - (g + 1), by omega⟩
        have hee : e' + 1 ≤ e := by omega
        have hq : e' * qk_c d + qk_c d ≤ e * qk_c d := by
          have := Nat.mul_le_mul_right (qk_c d) hee
          rw [Nat.succ_mul] at this
          exact this
        -- going on at this level with the next fact
        have NEXT : ∀ (tr2 bd2 mt2 : Nat → Int32) (n2 st2 : Nat), (∀ c, c < l + 1 → tr2 c = tr' c) → (∀ c, c < l + 1 → bd2 c = bd' c) → (∀ s, s < 512 → (mt2 s ≠ 0 ↔ (M s ∨ q_E nf aF aT aL qL qF qT d (l + 1) V' (qo_m tr' (l + 1)) s))) → n2 + st2 = 40001 → st2 ≤ st + qk_c d →
            wX_findMatches_75 post n2 (nI l) (nI st2) (nI nf) (nI nc) rd aF aT aL aN qL qF qT tr2 bd2 V' mt2 ys fd := by
          intro tr2 bd2 mt2 n2 st2 f1 f2 f3 f4 f5
          have om2 : qo_m tr2 l = qo_m tr l := by rw [← om]; exact qo_cong (fun c hc => f1 c (by omega))
          refine ih e' (by omega) (g + 1) V tr2 bd2 V' mt2 n2 st2 (fun s => M s ∨ q_E nf aF aT aL qL qF qT d (l + 1) V' (qo_m tr' (l + 1)) s) he' ?_ ?_ ?_ f3 f4 (by omega) ?_
          · rw [f1 l (by omega), e3, nI_1]
          · rw [f2 l (by omega)]; exact e4
          · intro c hc
            rw [f1 c (by omega)]
            exact hg' c (by omega)
          · intro tr3 bd3 mt3 n3 st3 k1 k2 k3 k4 k5
            refine K tr3 bd3 mt3 n3 st3 ?_ ?_ ?_ k4 (by omega)
            · intro c hc
              rw [k1 c hc, f1 c (by omega), e1 c (by omega)]
            · intro c hc
              rw [k2 c hc, f2 c (by omega), e2 c (by omega)]
            · intro s hs5
              rw [k3 s hs5, om2, q_EFs (d := d) (m := qo_m tr l) (s := s) htg hgn hh hs, om1]
              exact or_assoc
        refine br_f (by decide) ?_
        rcases d with _ | d'
        · have en : nI l + 1 = nI nc := by rw [nI_1]; exact congrArg nI (by omega)
          refine br_t en ?_
          have hg2 : ∀ c, c < nc → ∃ g, g < nf ∧ tr' c = nI g := fun c hc => hg' c (by omega)
          refine xw_fom hnf hnc hg2 ?_
          have l5 : qo_m tr' nc < 512 := qa_512 hnf (qo_lt hnf hg2)
          refine ⟨qa_in l5, nm_r (e' := upd mt (qo_m tr' nc) 1) (by rw [qa_cl l5, qb_nar1]) (nm_r (nI_1 st) ?_)⟩
          refine NEXT tr' bd' _ k (st + 1) (fun c hc => rfl) (fun c hc => rfl) ?_ (by omega) (by show st + 1 ≤ st + 1; omega)
          intro s hs5
          have enc : nc = l + 1 := by omega
          show upd mt (qo_m tr' nc) 1 s ≠ 0 ↔ (M s ∨ s = qo_m tr' (l + 1))
          rw [← enc]
          by_cases e : s = qo_m tr' nc
          · rw [e, pk_us]
            exact ⟨fun _ => Or.inr rfl, fun _ => by decide⟩
          · rw [pk_un e, hM s hs5]
            exact ⟨Or.inl, fun z => z.elim id (fun y => absurd y e)⟩
        · have en : ¬ nI l + 1 = nI nc := by
            rw [nI_1, nI_eq (by omega) (by omega)]
            omega
          have hl5 : vp_in (nI (l + 1)) 5 := vp_in_nI (by omega) (by decide)
          have cl : (nI (l + 1)).toNatClampNeg = l + 1 := nI_clamp (by omega)
          refine br_f en (nm_r (nI_1 l) ⟨hl5, nm_r (e' := upd tr' (l + 1) (-1)) (by rw [cl]) ⟨hl5, nm_r (e' := upd bd' (l + 1) 0) (by rw [cl]) (nm_r (nI_1 st) ?_)⟩⟩)
          have hqd : qk_c (d' + 1) = 9 * qk_c d' + 2 := rfl
          have hq9 : nf * qk_c d' ≤ 9 * qk_c d' := Nat.mul_le_mul_right _ hnf
          refine ihd d' rfl nf 0 V' _ _ V' mt k (st + 1) M (by omega) ?_ ?_ ?_ hM (by omega) (by omega) ?_
          · rw [pk_us]; decide
          · rw [pk_us]; exact q_rel0 V'
          · intro c hc
            rw [pk_un (by omega)]
            exact hg' c hc
          · intro tr2 bd2 mt2 n2 st2 f1 f2 f3 f4 f5
            rw [pk_m1]
            refine NEXT tr2 bd2 mt2 n2 st2 ?_ ?_ ?_ f4 (by omega)
            · intro c hc
              rw [f1 c hc, pk_un (by omega)]
            · intro c hc
              rw [f2 c hc, pk_un (by omega)]
            · intro s hs5
              rw [f3 s hs5, q_EF0]
              have e : qo_m (upd tr' (l + 1) (-1)) (l + 1) = qo_m tr' (l + 1) := qo_cong (fun c hc => pk_un (by omega))
              rw [e]
  intro e
  exact key e e (Nat.le_refl _)
theorem xw_lev {post : SX → Prop} (hnf : nf ≤ 9) (hnc : nc ≤ 4) (hpl : ∀ c, c < nc → qp_pl (qF c) ∧ qp_pl (qT c)) : ∀ d l : Nat, l + d + 1 = nc → q_LV nf nc rd aF aT aL aN qL qF qT ys fd post d l := by
  intro d
  induction d with
  | zero =>
    intro l h
    exact xw_lev1 hnf hnc h hpl (fun d' e => by omega)
  | succ d ih =>
    intro l h
    exact xw_lev1 hnf hnc h hpl (fun d' e => by
      have e2 : d' = d := by omega
      subst e2
      exact ih (l + 1) (by omega))
/-- what findMatches leaves in match -/
def q_MT (nf nc : Nat) (aF aT aL qL qF qT mt : Nat → Int32) : Prop := ∃ V : Nat → Int32, (∀ v, v < 3 → V v = -1) ∧ ∀ s, s < 512 → (mt s ≠ 0 ↔ q_E nf aF aT aL qL qF qT nc 0 V 0 s)
theorem xw_find75 {post : SX → Prop} {V : Nat → Int32} (hnf : nf ≤ 9) (hnc : nc ≤ 4) (hn0 : 0 < nc) (hpl : ∀ c, c < nc → qp_pl (qF c) ∧ qp_pl (qT c)) (hmt : ∀ s, s < 512 → mt s = 0)
    (K : ∀ tr' bd' mt' : Nat → Int32, (∀ s, s < 512 → (mt' s ≠ 0 ↔ q_E nf aF aT aL qL qF qT nc 0 V 0 s)) → post (nI nf, nI nc, rd, aF, aT, aL, aN, qL, qF, qT, tr', bd', V, mt', ys, fd)) :
    wX_findMatches_75 post 40001 0 0 (nI nf) (nI nc) rd aF aT aL aN qL qF qT (upd tr 0 (-1)) (upd bd 0 0) V mt ys fd := by
  have hq : ∀ d, d < 4 → 9 * qk_c d + 1 ≤ 40000 := by decide
  have hq9 : nf * qk_c (nc - 1) ≤ 9 * qk_c (nc - 1) := Nat.mul_le_mul_right _ hnf
  have hq2 := hq (nc - 1) (by omega)
  refine xw_lev (d := nc - 1) (l := 0) hnf hnc hpl (by omega) nf 0 V _ _ V mt 40001 0 (fun _ => False) (by omega) ?_ ?_ ?_ ?_ rfl (by omega) ?_
  · rw [pk_us]; decide
  · rw [pk_us]; exact q_rel0 V
  · intro c hc; omega
  · intro s hs
    exact ⟨fun z => z (hmt s hs), fun z => z.elim⟩
  · intro tr' bd' mt' n' st' f1 f2 f3 f4 f5
    obtain ⟨k, rfl⟩ : ∃ k, n' = k + 1 := ⟨n' - 1, by omega⟩
    have c1 : ¬ (40000 : Int32) ≤ nI st' ∨ (40000 : Int32) ≤ nI st' := by
      rcases Classical.em ((40000 : Int32) ≤ nI st') with z | z
      · exact Or.inr z
      · exact Or.inl z
    have P : post (nI nf, nI nc, rd, aF, aT, aL, aN, qL, qF, qT, tr', bd', V, mt', ys, fd) := by
      refine K tr' bd' mt' ?_
      intro s hs
      rw [f3 s hs, q_EF0]
      have e : nc - 1 + 1 = nc := by omega
      rw [e]
      exact ⟨fun z => z.elim (fun y => y.elim) id, Or.inr⟩
    rcases c1 with z | z
    · exact br_f z (br_t (by decide) P)
    · exact br_t z P
theorem xw_find24 {post : SX → Prop} (hnf : nf ≤ 9) (hnc : nc ≤ 4) (hpl : ∀ c, c < nc → qp_pl (qF c) ∧ qp_pl (qT c)) (hmt : ∀ s, s < 512 → mt s = 0)
    (K : ∀ tr' bd' vl' mt' : Nat → Int32, q_MT nf nc aF aT aL qL qF qT mt' → post (nI nf, nI nc, rd, aF, aT, aL, aN, qL, qF, qT, tr', bd', vl', mt', ys, fd)) :
    ∀ d i : Nat, i + d = 3 → ∀ vl : Nat → Int32, (∀ v, v < i → vl v = -1) → wX_findMatches_24 post (nI nf) (nI nc) rd (d + 1) (nI i) aF aT aL aN qL qF qT tr bd vl mt ys fd := by
  intro d
  induction d with
  | zero =>
    intro i hi vl h
    have h3 : ∀ v, v < 3 → vl v = -1 := fun v hv => h v (by omega)
    refine br_t (nI_le (a := 3) (by omega) (by omega)) ?_
    by_cases z : nc = 0
    · subst z
      refine br_t rfl (nm_r (e' := upd mt 0 1) (by rw [qb_nar1]) ?_)
      refine K tr bd vl _ ⟨vl, h3, fun s hs => ?_⟩
      show upd mt 0 1 s ≠ 0 ↔ s = 0
      by_cases e : s = 0
      · rw [e, pk_us]
        exact ⟨fun _ => rfl, fun _ => by decide⟩
      · rw [pk_un e]
        exact ⟨fun y => absurd (hmt s hs) y, fun y => absurd y e⟩
    · refine br_f (nI_ne0 (by omega) (by omega)) (nm_e (nm_e (Exists.intro 40001 ?_)))
      exact xw_find75 hnf hnc (by omega) hpl hmt (fun tr' bd' mt' h => K tr' bd' vl mt' ⟨vl, h3, h⟩)
  | succ d ih =>
    intro i hi vl h
    have c3 : ¬ (3 : Int32) ≤ nI i := nI_ge (b := 3) (by omega) (by decide)
    have hi3 : vp_in (nI i) 3 := vp_in_nI (by omega) (by decide)
    have ci : (nI i).toNatClampNeg = i := nI_clamp (by omega)
    refine br_f c3 ⟨hi3, nm_r (e' := upd vl i (-1)) (by rw [ci]) (nm_r (nI_1 i) ?_)⟩
    refine ih (i + 1) (by omega) _ ?_
    intro v hv
    by_cases e : v = i
    · rw [e, pk_us]
    · rw [pk_un e]; exact h v (by omega)
theorem xw_find2 {post : SX → Prop} (hnf : nf ≤ 9) (hnc : nc ≤ 4) (hpl : ∀ c, c < nc → qp_pl (qF c) ∧ qp_pl (qT c))
    (K : ∀ tr' bd' vl' mt' : Nat → Int32, q_MT nf nc aF aT aL qL qF qT mt' → post (nI nf, nI nc, rd, aF, aT, aL, aN, qL, qF, qT, tr', bd', vl', mt', ys, fd)) :
    ∀ d i : Nat, i + d = 512 → ∀ mt : Nat → Int32, (∀ s, s < i → mt s = 0) → wX_findMatches_2 post (nI nf) (nI nc) rd (d + 1) (nI i) aF aT aL aN qL qF qT tr bd vl mt ys fd := by
  intro d
  induction d with
  | zero =>
    intro i hi mt h
    refine br_t (nI_le (a := 512) (by omega) (by omega)) (Exists.intro 4 ?_)
    exact xw_find24 hnf hnc hpl (fun s hs => h s (by omega)) K 3 0 rfl vl (fun v hv => by omega)
  | succ d ih =>
    intro i hi mt h
    have c3 : ¬ (512 : Int32) ≤ nI i := nI_ge (b := 512) (by omega) (by decide)
    refine br_f c3 ⟨qa_in (by omega), nm_r (e' := upd mt i 0) (by rw [qa_cl (by omega), qb_nar0]) (nm_r (nI_1 i) ?_)⟩
    refine ih (i + 1) (by omega) _ ?_
    intro v hv
    by_cases e : v = i
    · rw [e, pk_us]
    · rw [pk_un e]; exact h v (by omega)
theorem xw_find {post : SX → Prop} (hnf : nf ≤ 9) (hnc : nc ≤ 4) (hpl : ∀ c, c < nc → qp_pl (qF c) ∧ qp_pl (qT c))
    (K : ∀ tr' bd' vl' mt' : Nat → Int32, q_MT nf nc aF aT aL qL qF qT mt' → post (nI nf, nI nc, rd, aF, aT, aL, aN, qL, qF, qT, tr', bd', vl', mt', ys, fd)) : wpX_findMatches post (nI nf, nI nc, rd, aF, aT, aL, aN, qL, qF, qT, tr, bd, vl, mt, ys, fd) :=
  Exists.intro 513 (xw_find2 hnf hnc hpl K 512 0 rfl mt (fun s hs => by omega))
end
end
section
/-! the plain law: matches against choices of values -/
def q_node (p k : Int32) : Int32 :=
  if p < 8 then (if p = 0 then k - k / 6 * 6 else if p = 1 then k / 6 - k / 6 / 6 * 6 else k / 36) else p - 8
def q_val (v k : Nat) : Nat := if v = 0 then k % 6 else if v = 1 then k / 6 % 6 else k / 36
theorem q_div6 : ∀ k, k < 216 → nI k - nI k / 6 * 6 = nI (k % 6) ∧ nI k / 6 - nI k / 6 / 6 * 6 = nI (k / 6 % 6) ∧ nI k / 36 = nI (k / 36) := by decide +kernel
theorem q_nodeV {v k : Nat} (hv : v < 3) (hk : k < 216) : q_node (nI v) (nI k) = nI (q_val v k) := by
  obtain ⟨a, b, c⟩ := q_div6 k hk
  unfold q_node q_val
  rw [if_pos (q_lt8 (by omega))]
  match v, hv with
  | 0, _ => rw [if_pos nI_0, if_pos (show (0 : Nat) = 0 from rfl)]; exact a
  | 1, _ => rw [if_neg (show ¬ nI 1 = 0 by decide), if_pos (show nI 1 = 1 by decide), if_neg (show ¬ (1 : Nat) = 0 by decide), if_pos (show (1 : Nat) = 1 from rfl)]; exact b
  | 2, _ => rw [if_neg (show ¬ nI 2 = 0 by decide), if_neg (show ¬ nI 2 = 1 by decide), if_neg (show ¬ (2 : Nat) = 0 by decide), if_neg (show ¬ (2 : Nat) = 1 by decide)]; exact c
theorem q_valL {v k : Nat} (hv : v < 3) (hk : k < 216) : q_val v k < 6 := by
  unfold q_val
  by_cases h0 : v = 0
  · rw [if_pos h0]; omega
  · rw [if_neg h0]
    by_cases h1 : v = 1
    · rw [if_pos h1]; omega
    · rw [if_neg h1]; omega
theorem q_nodeF {p k : Int32} (h : ¬ p < 8) : q_node p k = p - 8 := by unfold q_node; rw [if_neg h]
theorem q_ne1 {j : Nat} (h : j < 6) : nI j ≠ -1 := by
  intro e
  exact nI_pos (n := j) (by omega) (by rw [e]; decide)
/-- the values agree with a choice -/
def q_sub (V : Nat → Int32) (k : Nat) : Prop := ∀ v, v < 3 → V v = -1 ∨ V v = nI (q_val v k)
def q_gd (V : Nat → Int32) : Prop := ∀ v, v < 3 → V v = -1 ∨ ∃ a, V v = nI a ∧ a < 6
theorem q_some {V : Nat → Int32} (h : q_gd V) : ∃ k, k < 216 ∧ q_sub V k := by
  have g : ∀ v, v < 3 → ∃ a, a < 6 ∧ (V v = -1 ∨ V v = nI a) := by
    intro v hv
    rcases h v hv with e | ⟨a, e, ha⟩
    · exact ⟨0, by omega, Or.inl e⟩
    · exact ⟨a, ha, Or.inr e⟩
  obtain ⟨a, ha, ea⟩ := g 0 (by omega)
  obtain ⟨b, hb, eb⟩ := g 1 (by omega)
  obtain ⟨c, hc, ec⟩ := g 2 (by omega)
  refine ⟨a + 6 * b + 36 * c, by omega, ?_⟩
  intro v hv
  have x0 : q_val 0 (a + 6 * b + 36 * c) = a := by show (a + 6 * b + 36 * c) % 6 = a; omega
  have x1 : q_val 1 (a + 6 * b + 36 * c) = b := by show (a + 6 * b + 36 * c) / 6 % 6 = b; omega
  have x2 : q_val 2 (a + 6 * b + 36 * c) = c := by show (a + 6 * b + 36 * c) / 36 = c; omega
  match v, hv with
  | 0, _ => rw [x0]; exact ea
  | 1, _ => rw [x1]; exact eb
  | 2, _ => rw [x2]; exact ec
theorem q_fitS {V V' : Nat → Int32} {p a : Int32} (hp : qp_pl p) (ha : qp_nd a) (h : q_fit V p a = some V') (hV : q_gd V) :
    q_gd V' ∧ ∀ k, k < 216 → q_sub V' k → q_sub V k ∧ a = q_node p (nI k) := by
  obtain ⟨j, rfl, hj⟩ := hp
  obtain ⟨x, rfl, hx⟩ := ha
  unfold q_fit at h
  rcases hj with hj | ⟨hj, hj2⟩
  · rw [if_pos (q_lt8 (by omega)), nI_clamp (by omega)] at h
    by_cases z : V j = -1
    · rw [if_pos z] at h
      cases h
      refine ⟨fun v hv => ?_, fun k hk hs => ⟨fun v hv => ?_, ?_⟩⟩
      · by_cases e : v = j
        · rw [e, pk_us]; exact Or.inr ⟨x, rfl, hx⟩
        · rw [pk_un e]; exact hV v hv
      · by_cases e : v = j
        · rw [e]; exact Or.inl z
        · have := hs v hv
          rw [pk_un e] at this
          exact this
      · have := hs j hj
        rw [pk_us] at this
        rw [q_nodeV hj hk]
        exact this.elim (fun y => absurd y (q_ne1 hx)) id
    · rw [if_neg z] at h
      by_cases y : V j = nI x
      · rw [if_pos y] at h
        cases h
        refine ⟨hV, fun k hk hs => ⟨hs, ?_⟩⟩
        rw [q_nodeV hj hk, ← y]
        exact (hs j hj).elim (fun w => absurd w z) id
      · rw [if_neg y] at h
        cases h
  · rw [if_neg (q_nlt8 hj hj2)] at h
    by_cases y : nI j - 8 = nI x
    · rw [if_pos y] at h
      cases h
      exact ⟨hV, fun k hk hs => ⟨hs, by rw [q_nodeF (q_nlt8 hj hj2)]; exact y.symm⟩⟩
    · rw [if_neg y] at h
      cases h
theorem q_fitC {V : Nat → Int32} {p a : Int32} {k : Nat} (hp : qp_pl p) (hk : k < 216) (hs : q_sub V k) (h : a = q_node p (nI k)) : ∃ V', q_fit V p a = some V' ∧ q_sub V' k := by
  obtain ⟨j, rfl, hj⟩ := hp
  unfold q_fit
  rcases hj with hj | ⟨hj, hj2⟩
  · rw [if_pos (q_lt8 (by omega)), nI_clamp (by omega)]
    rw [q_nodeV hj hk] at h
    by_cases z : V j = -1
    · rw [if_pos z]
      refine ⟨_, rfl, fun v hv => ?_⟩
      by_cases e : v = j
      · rw [e, pk_us]; exact Or.inr h
      · rw [pk_un e]; exact hs v hv
    · rw [if_neg z, if_pos (((hs j hj).resolve_left z).trans h.symm)]
      exact ⟨V, rfl, hs⟩
  · rw [q_nodeF (q_nlt8 hj hj2)] at h
    rw [if_neg (q_nlt8 hj hj2), if_pos h.symm]
    exact ⟨V, rfl, hs⟩
section
variable {nf nc : Nat} {aF aT aL qL qF qT : Nat → Int32}
/-- fact i makes condition c hold for the choice k -/
def q_ok (aF aT aL qL qF qT : Nat → Int32) (c i k : Nat) : Prop := aF i = q_node (qF c) (nI k) ∧ aT i = q_node (qT c) (nI k) ∧ aL i = qL c
/-- the choice k makes every condition hold in the world w -/
def q_H (nf nc : Nat) (aF aT aL qL qF qT : Nat → Int32) (k w : Nat) : Prop := ∀ c, c < nc → ∃ i, i < nf ∧ w.testBit i = true ∧ q_ok aF aT aL qL qF qT c i k
def q_Y (nf nc : Nat) (aF aT aL qL qF qT : Nat → Int32) (w : Nat) : Prop := ∃ k, k < (if nc = 0 then 1 else 216) ∧ q_H nf nc aF aT aL qL qF qT k w
theorem q_tryS {V V' : Nat → Int32} {l f : Nat} (hp : qp_pl (qF l) ∧ qp_pl (qT l)) (ha : qp_nd (aF f) ∧ qp_nd (aT f)) (h : q_try aF aT aL qL qF qT l f V = some V') (hV : q_gd V) :
    q_gd V' ∧ ∀ k, k < 216 → q_sub V' k → q_sub V k ∧ q_ok aF aT aL qL qF qT l f k := by
  unfold q_try at h
  by_cases z : aL f = qL l
  · rw [if_pos z] at h
    cases e : q_fit V (qF l) (aF f) with
    | none =>
      rw [e] at h
      cases h
    | some V1 =>
      rw [e] at h
      have h2 : q_fit V1 (qT l) (aT f) = some V' := h
      obtain ⟨g1, s1⟩ := q_fitS hp.1 ha.1 e hV
      obtain ⟨g2, s2⟩ := q_fitS hp.2 ha.2 h2 g1
      refine ⟨g2, fun k hk hs => ?_⟩
      obtain ⟨a, b⟩ := s2 k hk hs
      obtain ⟨c, d⟩ := s1 k hk a
      exact ⟨c, d, b, z⟩
  · rw [if_neg z] at h
    cases h
theorem q_tryC {V : Nat → Int32} {l f k : Nat} (hp : qp_pl (qF l) ∧ qp_pl (qT l)) (hk : k < 216) (hs : q_sub V k) (h : q_ok aF aT aL qL qF qT l f k) : ∃ V', q_try aF aT aL qL qF qT l f V = some V' ∧ q_sub V' k := by
  obtain ⟨a, b, c⟩ := h
  obtain ⟨V1, e1, s1⟩ := q_fitC hp.1 hk hs a
  obtain ⟨V2, e2, s2⟩ := q_fitC hp.2 hk s1 b
  refine ⟨V2, ?_, s2⟩
  unfold q_try
  rw [if_pos c, e1]
  exact e2
theorem q_ES (hpl : ∀ c, c < nc → qp_pl (qF c) ∧ qp_pl (qT c)) (hnd : ∀ i, i < nf → qp_nd (aF i) ∧ qp_nd (aT i)) : ∀ d l : Nat, l + d = nc → ∀ (V : Nat → Int32) (m s : Nat), q_E nf aF aT aL qL qF qT d l V m s → q_gd V →
    ∃ k, k < 216 ∧ q_sub V k ∧ (∀ i, m.testBit i = true → s.testBit i = true) ∧ (m < 2 ^ nf → s < 2 ^ nf) ∧ ∀ c, l ≤ c → c < nc → ∃ i, i < nf ∧ s.testBit i = true ∧ q_ok aF aT aL qL qF qT c i k := by
  intro d
  induction d with
  | zero =>
    intro l hl V m s h hV
    obtain ⟨k, hk, hs⟩ := q_some hV
    have e : s = m := h
    subst e
    exact ⟨k, hk, hs, fun _ z => z, fun z => z, fun c a b => by omega⟩
  | succ d ih =>
    intro l hl V m s h hV
    obtain ⟨f, hf, V', ht, h⟩ := h
    obtain ⟨g1, s1⟩ := q_tryS (hpl l (by omega)) (hnd f hf) ht hV
    obtain ⟨k, hk, hs, hm, hlt, hc⟩ := ih (l + 1) (by omega) V' _ s h g1
    obtain ⟨s2, ok⟩ := s1 k hk hs
    refine ⟨k, hk, s2, fun i z => hm i (qa_toL z), fun z => hlt (qa_olt z hf), fun c a b => ?_⟩
    by_cases e : c = l
    · rw [e]
      exact ⟨f, hf, hm f (qa_toS _ _), ok⟩
    · exact hc c (by omega) b
theorem q_EC (hpl : ∀ c, c < nc → qp_pl (qF c) ∧ qp_pl (qT c)) {k w : Nat} (hk : k < 216) (hw : q_H nf nc aF aT aL qL qF qT k w) : ∀ d l : Nat, l + d = nc → ∀ (V : Nat → Int32) (m : Nat), q_sub V k → (∀ i, m.testBit i = true → w.testBit i = true) →
    ∃ s, q_E nf aF aT aL qL qF qT d l V m s ∧ ∀ i, s.testBit i = true → w.testBit i = true := by
  intro d
  induction d with
  | zero =>
    intro l hl V m hs hm
    exact ⟨m, rfl, hm⟩
  | succ d ih =>
    intro l hl V m hs hm
    obtain ⟨f, hf, hb, ok⟩ := hw l (by omega)
    obtain ⟨V', ht, hs'⟩ := q_tryC (hpl l (by omega)) hk hs ok
    obtain ⟨s, h1, h2⟩ := ih (l + 1) (by omega) V' (m ||| 2 ^ f) hs' (fun i z => by
      by_cases e : f = i
      · rw [← e]; exact hb
      · rw [qa_toN e] at z
        exact hm i z)
    exact ⟨s, ⟨f, hf, V', ht, h1⟩, h2⟩
/-- what is known of match once it is found -/
def q_MS (nf nc : Nat) (aF aT aL qL qF qT mt : Nat → Int32) : Prop :=
  (∀ s, s < 2 ^ nf → mt s ≠ 0 → q_Y nf nc aF aT aL qL qF qT s) ∧ ∀ w, w < 2 ^ nf → q_Y nf nc aF aT aL qL qF qT w → ∃ s, s < 2 ^ nf ∧ mt s ≠ 0 ∧ ∀ i, s.testBit i = true → w.testBit i = true
/-- what is known of yes once it is found -/
def q_YS (nf nc : Nat) (aF aT aL qL qF qT ys : Nat → Int32) : Prop := ∀ s, s < 2 ^ nf → ys s = qb_v (q_Y nf nc aF aT aL qL qF qT s)
theorem q_Ymono {s w : Nat} (h : q_Y nf nc aF aT aL qL qF qT s) (hs : ∀ i, s.testBit i = true → w.testBit i = true) : q_Y nf nc aF aT aL qL qF qT w := by
  obtain ⟨k, hk, h⟩ := h
  refine ⟨k, hk, fun c hc => ?_⟩
  obtain ⟨i, hi, hb, ok⟩ := h c hc
  exact ⟨i, hi, hs i hb, ok⟩
theorem q_law {mt : Nat → Int32} (hnf : nf ≤ 9) (hpl : ∀ c, c < nc → qp_pl (qF c) ∧ qp_pl (qT c)) (hnd : ∀ i, i < nf → qp_nd (aF i) ∧ qp_nd (aT i)) (h : q_MT nf nc aF aT aL qL qF qT mt) : q_MS nf nc aF aT aL qL qF qT mt := by
  obtain ⟨V, hV, h⟩ := h
  have hg : q_gd V := fun v hv => Or.inl (hV v hv)
  constructor
  · intro s hs hm
    obtain ⟨k, hk, _, _, _, hc⟩ := q_ES hpl hnd nc 0 (by omega) V 0 s ((h s (qa_512 hnf hs)).mp hm) hg
    by_cases z : nc = 0
    · exact ⟨0, by rw [if_pos z]; decide, fun c hc => by omega⟩
    · exact ⟨k, by rw [if_neg z]; exact hk, fun c hc2 => hc c (Nat.zero_le _) hc2⟩
  · intro w hw hy
    obtain ⟨k, hk, hy⟩ := hy
    have hk' : k < 216 := by
      by_cases z : nc = 0
      · rw [if_pos z] at hk; omega
      · rw [if_neg z] at hk; exact hk
    obtain ⟨s, h1, h2⟩ := q_EC hpl hk' hy nc 0 (by omega) V 0 (fun v hv => Or.inl (hV v hv)) (fun i z => by rw [Nat.zero_testBit] at z; cases z)
    obtain ⟨_, _, _, _, hlt, _⟩ := q_ES hpl hnd nc 0 (by omega) V 0 s h1 hg
    have hs := hlt (Nat.two_pow_pos nf)
    exact ⟨s, hs, (h s (qa_512 hnf hs)).mpr h1, h2⟩
/-- a world answers yes if it is a match or some world with one fact less answers yes -/
theorem q_below {mt : Nat → Int32} {s : Nat} (hM : q_MS nf nc aF aT aL qL qF qT mt) (hs : s < 2 ^ nf) :
    q_Y nf nc aF aT aL qL qF qT s ↔ (mt s ≠ 0 ∨ ∃ f, f < nf ∧ s.testBit f = true ∧ q_Y nf nc aF aT aL qL qF qT (s ^^^ 2 ^ f)) := by
  constructor
  · intro h
    obtain ⟨x, hx, hm, hb⟩ := hM.2 s hs h
    by_cases e : x = s
    · rw [← e]; exact Or.inl hm
    · refine Or.inr ?_
      have : ∃ f, s.testBit f = true ∧ x.testBit f = false := by
        refine Classical.byContradiction (fun z => e (Nat.eq_of_testBit_eq (fun i => ?_)))
        cases h1 : s.testBit i with
        | true =>
          cases h2 : x.testBit i with
          | true => rfl
          | false => exact absurd ⟨i, h1, h2⟩ z
        | false =>
          cases h2 : x.testBit i with
          | true => rw [hb i h2] at h1; cases h1
          | false => rfl
      obtain ⟨f, h1, h2⟩ := this
      refine ⟨f, qa_tlt hs h1, h1, q_Ymono (hM.1 x hx hm) (fun i hi => ?_)⟩
      have e2 : f ≠ i := by
        intro e2
        rw [← e2, h2] at hi
        cases hi
      rw [qa_txN e2]
      exact hb i hi
  · rintro (h | ⟨f, hf, hb, h⟩)
    · exact hM.1 s hs h
    · refine q_Ymono h (fun i hi => ?_)
      by_cases e : f = i
      · rw [← e]; exact hb
      · rw [qa_txN e] at hi
        exact hi
end
end
section
/-! X: yesBelow, prepare -/
section
variable {nf nc : Nat} {rd : Int32} {aF aT aL aN qL qF qT tr bd vl mt ys fd : Nat → Int32}
/-- some world with one fact less answers yes -/
def q_bel (nf : Nat) (ys : Nat → Int32) (s : Nat) : Prop := ∃ f, f < nf ∧ s.testBit f = true ∧ ys (s ^^^ 2 ^ f) ≠ 0
theorem xw_below_lp {post : Int32 → Prop} {s : Nat} (hnf : nf ≤ 9) (hs : s < 512) (K : post (qb_v (q_bel nf ys s))) :
    ∀ d i : Nat, i + d = nf → (∀ f, f < i → s.testBit f = true → ys (s ^^^ 2 ^ f) = 0) → wX_yesBelow_2 post (nI s) (nI nf) (nI nc) rd aF aT aL aN qL qF qT tr bd vl mt ys fd (d + 1) (nI i) := by
  intro d
  induction d with
  | zero =>
    intro i hi h
    have e : i = nf := by omega
    subst e
    rw [qb_f (fun ⟨f, hf, hb, hy⟩ => hy (h f hf hb))] at K
    exact br_t (nI_le (Nat.le_refl _) (by omega)) K
  | succ d ih =>
    intro i hi h
    have c1 : ¬ nI nf ≤ nI i := nI_ge (by omega) (by omega)
    by_cases z : s.testBit i = true
    · have zb : (nI s >>> (nI i &&& 31)) &&& 1 = 1 := (qa_b1 hs (by omega)).mpr z
      have ec := qa_clr s hs i (by omega) z
      have lt : s ^^^ 2 ^ i < 512 := Nat.lt_trans (qa_xls hs (by omega) z) hs
      have hin : vp_in (nI s &&& (((1 : Int32) <<< (nI i &&& 31)) ^^^ (-1))) 512 := by rw [ec]; exact qa_in lt
      have ix : (nI s &&& (((1 : Int32) <<< (nI i &&& 31)) ^^^ (-1))).toNatClampNeg = s ^^^ 2 ^ i := by rw [ec]; exact qa_cl lt
      by_cases y : ys (s ^^^ 2 ^ i) = 0
      · refine br_f c1 (br_t zb ⟨hin, br_t (by rw [ix]; exact y) (nm_r (nI_1 i) ?_)⟩)
        refine ih (i + 1) (by omega) (fun f hf hb => ?_)
        by_cases e : f = i
        · rw [e]; exact y
        · exact h f (by omega) hb
      · rw [qb_t ⟨i, by omega, z, y⟩] at K
        exact br_f c1 (br_t zb ⟨hin, br_f (by rw [ix]; exact y) K⟩)
    · have zb : ¬ (nI s >>> (nI i &&& 31)) &&& 1 = 1 := fun w => z ((qa_b1 hs (by omega)).mp w)
      refine br_f c1 (br_f zb (nm_r (nI_1 i) ?_))
      refine ih (i + 1) (by omega) (fun f hf hb => ?_)
      by_cases e : f = i
      · rw [e] at hb; exact absurd hb z
      · exact h f (by omega) hb
theorem xw_below {post : Int32 → Prop} {s : Nat} (hnf : nf ≤ 9) (hs : s < 512) (K : post (qb_v (q_bel nf ys s))) : wpX_yesBelow post (nI nf, nI nc, rd, aF, aT, aL, aN, qL, qF, qT, tr, bd, vl, mt, ys, fd) (nI s) :=
  Exists.intro (nf + 1) (xw_below_lp hnf hs K nf 0 (by omega) (fun f hf => by omega))
theorem xw_prep19 {post : SX → Prop} (hnf : nf ≤ 9) (hM : q_MS nf nc aF aT aL qL qF qT mt) (K : ∀ ys' : Nat → Int32, q_YS nf nc aF aT aL qL qF qT ys' → post (nI nf, nI nc, rd, aF, aT, aL, aN, qL, qF, qT, tr, bd, vl, mt, ys', fd)) :
    ∀ d i : Nat, i + d = 2 ^ nf → ∀ ys : Nat → Int32, (∀ s, s < i → ys s = qb_v (q_Y nf nc aF aT aL qL qF qT s)) → wX_prepare_19 post (nI nf) (nI nc) rd (d + 1) (nI i) aF aT aL aN qL qF qT tr bd vl mt ys fd := by
  have h9 := qa_p9 hnf
  intro d
  induction d with
  | zero =>
    intro i hi ys h
    exact br_t (qa_le hnf (by omega) (by omega)) (K ys (fun s hs => h s (by omega)))
  | succ d ih =>
    intro i hi ys h
    have hi2 : i < 2 ^ nf := by omega
    have h5 : i < 512 := by omega
    have c1 := qa_nle hnf hi2
    have ci := qa_cl h5
    have hin := qa_in h5
    have hb : q_bel nf ys i ↔ ∃ f, f < nf ∧ i.testBit f = true ∧ q_Y nf nc aF aT aL qL qF qT (i ^^^ 2 ^ f) := by
      constructor
      · rintro ⟨f, hf, hb, hy⟩
        rw [h _ (qa_xls h5 (by omega) hb), qb_n0] at hy
        exact ⟨f, hf, hb, hy⟩
      · rintro ⟨f, hf, hb, hy⟩
        refine ⟨f, hf, hb, ?_⟩
        rw [h _ (qa_xls h5 (by omega) hb), qb_n0]
        exact hy
    have hY := q_below hM hi2
    have NEXT : ∀ x : Int32, x = qb_v (q_Y nf nc aF aT aL qL qF qT i) → wX_prepare_19 post (nI nf) (nI nc) rd (d + 1) (nI (i + 1)) aF aT aL aN qL qF qT tr bd vl mt (upd ys i x) fd := by
      intro x hx
      refine ih (i + 1) (by omega) _ (fun s hs => ?_)
      by_cases e : s = i
      · rw [e, pk_us]; exact hx
      · rw [pk_un e]; exact h s (by omega)
    refine br_f c1 (xw_below hnf h5 ?_)
    refine ⟨hin, ?_⟩
    by_cases z : mt i = 0
    · refine br_t (by rw [ci]; exact z) ?_
      by_cases y : q_bel nf ys i
      · refine br_f (qb_n0.mpr y) ⟨hin, nm_r (e' := upd ys i 1) (by rw [ci, qb_nar1]) (nm_r (nI_1 i) ?_)⟩
        exact NEXT 1 (qb_t (hY.mpr (Or.inr (hb.mp y)))).symm
      · refine br_t (qb_0.mpr y) ⟨hin, nm_r (e' := upd ys i 0) (by rw [ci, qb_nar0]) (nm_r (nI_1 i) ?_)⟩
        exact NEXT 0 (qb_f (fun w => (hY.mp w).elim (fun v => v z) (fun v => y (hb.mpr v)))).symm
    · refine br_f (by rw [ci]; exact z) ⟨hin, nm_r (e' := upd ys i 1) (by rw [ci, qb_nar1]) (nm_r (nI_1 i) ?_)⟩
      exact NEXT 1 (qb_t (hY.mpr (Or.inl z))).symm
theorem xw_prep {post : SX → Prop} (hnf : nf ≤ 9) (hnc : nc ≤ 4) (hpl : ∀ c, c < nc → qp_pl (qF c) ∧ qp_pl (qT c)) (hnd : ∀ i, i < nf → qp_nd (aF i) ∧ qp_nd (aT i))
    (hr : rd = 0 ∨ (q_MS nf nc aF aT aL qL qF qT mt ∧ q_YS nf nc aF aT aL qL qF qT ys))
    (K : ∀ (rd' : Int32) (tr' bd' vl' mt' ys' : Nat → Int32), q_MS nf nc aF aT aL qL qF qT mt' → q_YS nf nc aF aT aL qL qF qT ys' → post (nI nf, nI nc, rd', aF, aT, aL, aN, qL, qF, qT, tr', bd', vl', mt', ys', fd)) : wpX_prepare post (nI nf, nI nc, rd, aF, aT, aL, aN, qL, qF, qT, tr, bd, vl, mt, ys, fd) := by
  by_cases z : rd = 0
  · refine br_t z (xw_find hnf hnc hpl ?_)
    intro tr' bd' vl' mt' hm
    have hM := q_law hnf hpl hnd hm
    exact Exists.intro (2 ^ nf + 1) (xw_prep19 hnf hM (fun ys' hy => K 1 tr' bd' vl' mt' ys' hM hy) (2 ^ nf) 0 (by omega) ys (fun s hs => by omega))
  · have h := hr.resolve_left z
    exact br_f z (K rd tr bd vl mt ys h.1 h.2)
end
end
section
/-! Y: node, possible, holdsIn, work -/
noncomputable def qs_m (P : Nat → Prop) : Nat → Nat
  | 0 => 0
  | n + 1 => @ite Nat (P n) (Classical.propDecidable (P n)) (qs_m P n ||| 2 ^ n) (qs_m P n)
theorem qs_t {P : Nat → Prop} {n : Nat} (h : P n) : qs_m P (n + 1) = qs_m P n ||| 2 ^ n := if_pos h
theorem qs_f {P : Nat → Prop} {n : Nat} (h : ¬ P n) : qs_m P (n + 1) = qs_m P n := if_neg h
theorem qs_lt (P : Nat → Prop) : ∀ n, qs_m P n < 2 ^ n
  | 0 => by show 0 < 1; decide
  | n + 1 => by
    have a := qs_lt P n
    have b : 2 ^ n < 2 ^ (n + 1) := Nat.pow_lt_pow_right (by decide) (Nat.lt_succ_self n)
    rcases Classical.em (P n) with h | h
    · rw [qs_t h]; exact Nat.or_lt_two_pow (Nat.lt_trans a b) b
    · rw [qs_f h]; exact Nat.lt_trans a b
theorem qs_bit (P : Nat → Prop) (i : Nat) : ∀ n, (qs_m P n).testBit i = true ↔ (i < n ∧ P i)
  | 0 => by
    show (0 : Nat).testBit i = true ↔ _
    rw [Nat.zero_testBit]
    exact ⟨fun h => absurd h (by decide), fun h => absurd h.1 (Nat.not_lt_zero _)⟩
  | n + 1 => by
    have a := qs_bit P i n
    rcases Classical.em (P n) with h | h
    · rw [qs_t h]
      by_cases e : n = i
      · subst e
        exact ⟨fun _ => ⟨Nat.lt_succ_self _, h⟩, fun _ => qa_toS _ _⟩
      · rw [qa_toN e, a]
        exact ⟨fun z => ⟨by omega, z.2⟩, fun z => ⟨by omega, z.2⟩⟩
    · rw [qs_f h, a]
      constructor
      · exact fun z => ⟨by omega, z.2⟩
      · intro z
        by_cases e : i = n
        · rw [e] at z; exact absurd z.2 h
        · exact ⟨by omega, z.2⟩
theorem qs_and {P : Nat → Prop} {n w : Nat} (hn : n ≤ 9) : nI w &&& nI (qs_m P n) ≠ 0 ↔ ∃ i, i < n ∧ w.testBit i = true ∧ P i := by
  have h5 : qs_m P n < 512 := qa_512 hn (qs_lt P n)
  have hl : w &&& qs_m P n < 512 := Nat.lt_of_le_of_lt Nat.and_le_right h5
  have e0 : nI w &&& nI (qs_m P n) = 0 ↔ w &&& qs_m P n = 0 := by
    rw [nx_and, ← nI_0]
    exact nI_eq (by omega) (by decide)
  constructor
  · intro h
    refine Classical.byContradiction (fun z => h (e0.mpr (Nat.eq_of_testBit_eq (fun i => ?_))))
    rw [Nat.zero_testBit, Nat.testBit_and]
    cases h1 : w.testBit i with
    | false => rfl
    | true =>
      cases h2 : (qs_m P n).testBit i with
      | false => rfl
      | true =>
        have := (qs_bit P i n).mp h2
        exact absurd ⟨i, this.1, h1, this.2⟩ z
  · rintro ⟨i, hi, hw, hp⟩ z
    have z2 := e0.mp z
    have : (w &&& qs_m P n).testBit i = true := by rw [Nat.testBit_and, hw, (qs_bit P i n).mpr ⟨hi, hp⟩]; rfl
    rw [z2, Nat.zero_testBit] at this
    cases this
theorem qs_0 {P : Nat → Prop} {n : Nat} (h : qs_m P n = 0) : ∀ i, i < n → ¬ P i := by
  intro i hi hp
  have := (qs_bit P i n).mpr ⟨hi, hp⟩
  rw [h, Nat.zero_testBit] at this
  cases this
section
variable {nf nc : Nat} {kn : Int32} {aF aT aL aN qL qF qT mk yy : Nat → Int32}
theorem yw_node {post : Int32 → Prop} {p k : Int32} (K : post (q_node p k)) : wpY_node post (nI nf, nI nc, kn, aF, aT, aL, aN, qL, qF, qT, mk, yy) p k := by
  unfold q_node at K
  by_cases h8 : p < 8
  · rw [if_pos h8] at K
    by_cases h0 : p = 0
    · rw [if_pos h0] at K
      exact br_t h8 (br_t h0 ⟨by decide, K⟩)
    · rw [if_neg h0] at K
      by_cases h1 : p = 1
      · rw [if_pos h1] at K
        exact br_t h8 (br_f h0 (br_t h1 ⟨by decide, by decide, K⟩))
      · rw [if_neg h1] at K
        exact br_t h8 (br_f h0 (br_f h1 ⟨by decide, K⟩))
  · rw [if_neg h8] at K
    exact br_f h8 K
theorem yw_poss19 {post : Int32 → SY → Prop} {J : Int32 → (Nat → Int32) → (Nat → Int32) → (Nat → Int32) → (Nat → Int32) → (Nat → Int32) → (Nat → Int32) → (Nat → Int32) → (Nat → Int32) → (Nat → Int32) → Prop} {c k : Nat} (hc : c < 4) (hnf : nf ≤ 9) :
    ∀ d i : Nat, i + d = nf → ∀ mk : Nat → Int32, mk c = nI (qs_m (fun i => q_ok aF aT aL qL qF qT c i k) i) →
    (∀ mk' : Nat → Int32, (∀ c', c' ≠ c → mk' c' = mk c') → qs_m (fun i => q_ok aF aT aL qL qF qT c i k) nf = 0 → post 0 (nI nf, nI nc, kn, aF, aT, aL, aN, qL, qF, qT, mk', yy)) →
    (∀ mk' : Nat → Int32, (∀ c', c' ≠ c → mk' c' = mk c') → mk' c = nI (qs_m (fun i => q_ok aF aT aL qL qF qT c i k) nf) → qs_m (fun i => q_ok aF aT aL qL qF qT c i k) nf ≠ 0 → J (nI (c + 1)) aF aT aL aN qL qF qT mk' yy) →
    wY_possible_19 post J (nI k) (nI c) (nI nf) (nI nc) kn (d + 1) (nI i) aF aT aL aN qL qF qT mk yy := by
  have hc4 : vp_in (nI c) 4 := vp_in_nI hc (by decide)
  have cc : (nI c).toNatClampNeg = c := nI_clamp (by omega)
  intro d
  induction d with
  | zero =>
    intro i hi mk hm h0 h1
    have e : i = nf := by omega
    subst e
    have h5 : qs_m (fun j => q_ok aF aT aL qL qF qT c j k) i < 512 := qa_512 hnf (qs_lt _ _)
    refine br_t (nI_le (Nat.le_refl _) (by omega)) ⟨hc4, ?_⟩
    by_cases z : qs_m (fun j => q_ok aF aT aL qL qF qT c j k) i = 0
    · refine br_t (by rw [cc, hm, z]; exact nI_0) (h0 mk (fun _ _ => rfl) z)
    · refine br_f (by rw [cc, hm]; exact nI_ne0 (by omega) (by omega)) (nm_r (nI_1 c) (h1 mk (fun _ _ => rfl) hm z))
  | succ d ih =>
    intro i hi mk hm h0 h1
    have c1 : ¬ nI nf ≤ nI i := nI_ge (by omega) (by omega)
    have hi9 : vp_in (nI i) 9 := vp_in_nI (by omega) (by decide)
    have ci : (nI i).toNatClampNeg = i := nI_clamp (by omega)
    have h5 : qs_m (fun j => q_ok aF aT aL qL qF qT c j k) i < 512 := qa_512 (nf := i) (by omega) (qs_lt _ _)
    have SKIP : ¬ q_ok aF aT aL qL qF qT c i k → wY_possible_19 post J (nI k) (nI c) (nI nf) (nI nc) kn (d + 1) (nI (i + 1)) aF aT aL aN qL qF qT mk yy := by
      intro hn
      exact ih (i + 1) (by omega) mk (by rw [qs_f (P := fun j => q_ok aF aT aL qL qF qT c j k) hn]; exact hm) h0 h1
    refine br_f c1 ⟨hi9, hc4, yw_node ?_⟩
    by_cases zA : aF i = q_node (qF c) (nI k)
    · refine br_t (by rw [ci, cc]; exact zA) ⟨hi9, hc4, yw_node ?_⟩
      by_cases zB : aT i = q_node (qT c) (nI k)
      · refine br_t (by rw [ci, cc]; exact zB) ?_
        by_cases zL : aL i = qL c
        · have ok : q_ok aF aT aL qL qF qT c i k := ⟨zA, zB, zL⟩
          refine br_f (by decide) ⟨hi9, hc4, br_t (by rw [ci, cc]; exact zL) ⟨hc4, hc4, nm_r (e' := upd mk c (nI (qs_m (fun j => q_ok aF aT aL qL qF qT c j k) (i + 1)))) ?_ (nm_r (nI_1 i) ?_)⟩⟩
          · rw [cc, hm, qa_or _ h5 i (by omega), qs_t (P := fun j => q_ok aF aT aL qL qF qT c j k) ok]
          · refine ih (i + 1) (by omega) _ pk_us ?_ ?_
            · intro mk' e1 z
              exact h0 mk' (fun c' hc' => by rw [e1 c' hc', pk_un hc']) z
            · intro mk' e1 e2 z
              exact h1 mk' (fun c' hc' => by rw [e1 c' hc', pk_un hc']) e2 z
        · exact br_f (by decide) ⟨hi9, hc4, br_f (by rw [ci, cc]; exact zL) (nm_r (nI_1 i) (SKIP (fun z => zL z.2.2)))⟩
      · refine br_f (by rw [ci, cc]; exact zB) ?_
        exact br_t rfl (nm_r (nI_1 i) (SKIP (fun z => zB z.2.1)))
    · refine br_f (by rw [ci, cc]; exact zA) ?_
      exact br_t rfl (nm_r (nI_1 i) (SKIP (fun z => zA z.1)))
theorem yw_poss2 {post : Int32 → SY → Prop} {k : Nat} (hnf : nf ≤ 9) (hnc : nc ≤ 4)
    (h0 : ∀ (mk' : Nat → Int32) (c : Nat), c < nc → qs_m (fun i => q_ok aF aT aL qL qF qT c i k) nf = 0 → post 0 (nI nf, nI nc, kn, aF, aT, aL, aN, qL, qF, qT, mk', yy))
    (h1 : ∀ mk' : Nat → Int32, (∀ c, c < nc → mk' c = nI (qs_m (fun i => q_ok aF aT aL qL qF qT c i k) nf)) → post 1 (nI nf, nI nc, kn, aF, aT, aL, aN, qL, qF, qT, mk', yy)) :
    ∀ d c : Nat, c + d = nc → ∀ mk : Nat → Int32, (∀ c', c' < c → mk c' = nI (qs_m (fun i => q_ok aF aT aL qL qF qT c' i k) nf)) →
    wY_possible_2 post (nI k) (nI nf) (nI nc) kn (d + 1) (nI c) aF aT aL aN qL qF qT mk yy := by
  intro d
  induction d with
  | zero =>
    intro c hc mk hm
    exact br_t (nI_le (by omega) (by omega)) (h1 mk (fun c' hc' => hm c' (by omega)))
  | succ d ih =>
    intro c hc mk hm
    have c1 : ¬ nI nc ≤ nI c := nI_ge (by omega) (by omega)
    have hc4 : vp_in (nI c) 4 := vp_in_nI (by omega) (by decide)
    have cc : (nI c).toNatClampNeg = c := nI_clamp (by omega)
    refine br_f c1 ⟨hc4, nm_r (e' := upd mk c 0) (by rw [cc]) (Exists.intro (nf + 1) ?_)⟩
    refine yw_poss19 (k := k) (c := c) (by omega) hnf nf 0 (by omega) _ ?_ ?_ ?_
    · rw [pk_us]; rfl
    · intro mk' e1 z
      exact h0 mk' c (by omega) z
    · intro mk' e1 e2 z
      refine ih (c + 1) (by omega) mk' (fun c' hc' => ?_)
      by_cases e : c' = c
      · rw [e]; exact e2
      · rw [e1 c' e, pk_un e]; exact hm c' (by omega)
theorem yw_poss {post : Int32 → SY → Prop} {k : Nat} (hnf : nf ≤ 9) (hnc : nc ≤ 4)
    (h0 : ∀ (mk' : Nat → Int32) (c : Nat), c < nc → qs_m (fun i => q_ok aF aT aL qL qF qT c i k) nf = 0 → post 0 (nI nf, nI nc, kn, aF, aT, aL, aN, qL, qF, qT, mk', yy))
    (h1 : ∀ mk' : Nat → Int32, (∀ c, c < nc → mk' c = nI (qs_m (fun i => q_ok aF aT aL qL qF qT c i k) nf)) → post 1 (nI nf, nI nc, kn, aF, aT, aL, aN, qL, qF, qT, mk', yy)) : wpY_possible post (nI nf, nI nc, kn, aF, aT, aL, aN, qL, qF, qT, mk, yy) (nI k) :=
  Exists.intro (nc + 1) (yw_poss2 hnf hnc h0 h1 nc 0 (by omega) mk (fun c hc => by omega))
theorem yw_holds_lp {post : Int32 → Prop} {w : Nat} (hnc : nc ≤ 4) (K : post (qb_v (∀ c, c < nc → nI w &&& mk c ≠ 0))) :
    ∀ d c : Nat, c + d = nc → (∀ c', c' < c → nI w &&& mk c' ≠ 0) → wY_holdsIn_2 post (nI w) (nI nf) (nI nc) kn aF aT aL aN qL qF qT mk yy (d + 1) (nI c) := by
  intro d
  induction d with
  | zero =>
    intro c hc h
    rw [qb_t (fun c' hc' => h c' (by omega))] at K
    exact br_t (nI_le (by omega) (by omega)) K
  | succ d ih =>
    intro c hc h
    have c1 : ¬ nI nc ≤ nI c := nI_ge (by omega) (by omega)
    have hc4 : vp_in (nI c) 4 := vp_in_nI (by omega) (by decide)
    have cc : (nI c).toNatClampNeg = c := nI_clamp (by omega)
    by_cases z : nI w &&& mk c = 0
    · rw [qb_f (fun y => y c (by omega) z)] at K
      exact br_f c1 ⟨hc4, br_t (by rw [cc]; exact z) K⟩
    · refine br_f c1 ⟨hc4, br_f (by rw [cc]; exact z) (nm_r (nI_1 c) ?_)⟩
      refine ih (c + 1) (by omega) (fun c' hc' => ?_)
      by_cases e : c' = c
      · rw [e]; exact z
      · exact h c' (by omega)
theorem yw_holds {post : Int32 → Prop} {w : Nat} (hnc : nc ≤ 4) (K : post (qb_v (∀ c, c < nc → nI w &&& mk c ≠ 0))) : wpY_holdsIn post (nI nf, nI nc, kn, aF, aT, aL, aN, qL, qF, qT, mk, yy) (nI w) :=
  Exists.intro (nc + 1) (yw_holds_lp hnc K nc 0 (by omega) (fun c hc => by omega))
theorem yw_work66 {post : SY → Prop} {J : Int32 → Int32 → Int32 → Int32 → (Nat → Int32) → (Nat → Int32) → (Nat → Int32) → (Nat → Int32) → (Nat → Int32) → (Nat → Int32) → (Nat → Int32) → (Nat → Int32) → (Nat → Int32) → Prop} {x : Int32} {k : Nat} {A B : Nat → Prop} (hnf : nf ≤ 9) (hnc : nc ≤ 4)
    (hB : ∀ w, w < 2 ^ nf → ((∀ c, c < nc → nI w &&& mk c ≠ 0) ↔ B w))
    (K : ∀ yy' : Nat → Int32, (∀ w, w < 2 ^ nf → yy' w = qb_v (A w ∨ B w)) → J (nI (k + 1)) (nI nf) (nI nc) kn aF aT aL aN qL qF qT mk yy') :
    ∀ d i : Nat, i + d = 2 ^ nf → ∀ yy : Nat → Int32, (∀ w, w < i → yy w = qb_v (A w ∨ B w)) → (∀ w, i ≤ w → w < 2 ^ nf → yy w = qb_v (A w)) →
    wY_work_66 post J x (nI k) 1 (nI nf) (nI nc) kn (d + 1) (nI i) aF aT aL aN qL qF qT mk yy := by
  have h9 := qa_p9 hnf
  intro d
  induction d with
  | zero =>
    intro i hi yy h1 h2
    exact br_f (by decide) (br_t (qa_le hnf (by omega) (by omega)) (nm_r (nI_1 k) (K yy (fun w hw => h1 w (by omega)))))
  | succ d ih =>
    intro i hi yy h1 h2
    have hi2 : i < 2 ^ nf := by omega
    have h5 : i < 512 := by omega
    have c1 := qa_nle hnf hi2
    have ci := qa_cl h5
    have hin := qa_in h5
    have hA := h2 i (Nat.le_refl _) hi2
    have NEXT : ∀ x' : Int32, x' = qb_v (A i ∨ B i) → wY_work_66 post J x (nI k) 1 (nI nf) (nI nc) kn (d + 1) (nI (i + 1)) aF aT aL aN qL qF qT mk (upd yy i x') := by
      intro x' hx
      refine ih (i + 1) (by omega) _ (fun w hw => ?_) (fun w hw hw2 => ?_)
      · by_cases e : w = i
        · rw [e, pk_us]; exact hx
        · rw [pk_un e]; exact h1 w (by omega)
      · rw [pk_un (by omega)]; exact h2 w (by omega) hw2
    refine br_f (by decide) (br_f c1 ⟨hin, ?_⟩)
    by_cases z : A i
    · have hz : ¬ yy (nI i).toNatClampNeg = 0 := by rw [ci, hA]; exact qb_n0.mpr z
      refine br_f hz ⟨hin, nm_r (e' := upd yy i 1) (by rw [ci, qb_nar1]) (nm_r (nI_1 i) ?_)⟩
      exact NEXT 1 (qb_t (Or.inl z)).symm
    · have hz : yy (nI i).toNatClampNeg = 0 := by rw [ci, hA]; exact qb_0.mpr z
      refine br_t hz (yw_holds hnc ?_)
      by_cases y : B i
      · refine br_f (qb_n0.mpr ((hB i hi2).mpr y)) ⟨hin, nm_r (e' := upd yy i 1) (by rw [ci, qb_nar1]) (nm_r (nI_1 i) ?_)⟩
        exact NEXT 1 (qb_t (Or.inr y)).symm
      · refine br_t (qb_0.mpr (fun v => y ((hB i hi2).mp v))) ⟨hin, nm_r (e' := upd yy i 0) (by rw [ci, qb_nar0]) (nm_r (nI_1 i) ?_)⟩
        exact NEXT 0 (qb_f (fun v => v.elim z y)).symm
theorem yw_work52 {post : SY → Prop} {N : Nat} (hN : N ≤ 216) (hnf : nf ≤ 9) (hnc : nc ≤ 4)
    (K : ∀ mk' yy' : Nat → Int32, (∀ w, w < 2 ^ nf → yy' w = qb_v (∃ k, k < N ∧ q_H nf nc aF aT aL qL qF qT k w)) → post (nI nf, nI nc, kn, aF, aT, aL, aN, qL, qF, qT, mk', yy')) :
    ∀ d k : Nat, k + d = N → ∀ mk yy : Nat → Int32, (∀ w, w < 2 ^ nf → yy w = qb_v (∃ k', k' < k ∧ q_H nf nc aF aT aL qL qF qT k' w)) → wY_work_52 post (nI N) (d + 1) (nI k) (nI nf) (nI nc) kn aF aT aL aN qL qF qT mk yy := by
  intro d
  induction d with
  | zero =>
    intro k hk mk yy h
    have e : k = N := by omega
    subst e
    exact br_t (nI_le (Nat.le_refl _) (by omega)) (K mk yy h)
  | succ d ih =>
    intro k hk mk yy h
    have c1 : ¬ nI N ≤ nI k := nI_ge (by omega) (by omega)
    refine br_f c1 (yw_poss hnf hnc ?_ ?_)
    · intro mk' c hc hz
      refine Exists.intro 1 (br_t rfl (nm_r (nI_1 k) ?_))
      refine ih (k + 1) (by omega) mk' yy (fun w hw => ?_)
      rw [h w hw]
      refine qb_iff ⟨fun ⟨k', a, b⟩ => ⟨k', by omega, b⟩, fun ⟨k', a, b⟩ => ⟨k', ?_, b⟩⟩
      rcases Nat.lt_or_ge k' k with y | y
      · exact y
      · have e : k' = k := by omega
        subst e
        obtain ⟨i, hi, _, ok⟩ := b c hc
        exact absurd ok (qs_0 hz i hi)
    · intro mk' hm
      refine Exists.intro (2 ^ nf + 1) ?_
      refine yw_work66 (A := fun w => ∃ k', k' < k ∧ q_H nf nc aF aT aL qL qF qT k' w) (B := fun w => q_H nf nc aF aT aL qL qF qT k w) hnf hnc ?_ ?_ (2 ^ nf) 0 (by omega) yy (fun w hw => by omega) (fun w _ hw => h w hw)
      · intro w hw
        constructor
        · intro y c hc
          have := y c hc
          rw [hm c hc, qs_and hnf] at this
          exact this
        · intro y c hc
          rw [hm c hc, qs_and hnf]
          exact y c hc
      · intro yy' hy
        refine ih (k + 1) (by omega) mk' yy' (fun w hw => ?_)
        rw [hy w hw]
        refine qb_iff ⟨?_, ?_⟩
        · rintro (⟨k', a, b⟩ | b)
          · exact ⟨k', by omega, b⟩
          · exact ⟨k, by omega, b⟩
        · rintro ⟨k', a, b⟩
          rcases Nat.lt_or_ge k' k with y | y
          · exact Or.inl ⟨k', y, b⟩
          · have e : k' = k := by omega
            subst e
            exact Or.inr b
theorem yw_work15 {post : SY → Prop} (hnf : nf ≤ 9) (hnc : nc ≤ 4)
    (K : ∀ mk' yy' : Nat → Int32, q_YS nf nc aF aT aL qL qF qT yy' → post (nI nf, nI nc, kn, aF, aT, aL, aN, qL, qF, qT, mk', yy')) :
    ∀ d i : Nat, i + d = 512 → ∀ yy : Nat → Int32, (∀ w, w < i → yy w = 0) → wY_work_15 post (nI nf) (nI nc) kn (d + 1) (nI i) aF aT aL aN qL qF qT mk yy := by
  intro d
  induction d with
  | zero =>
    intro i hi yy h
    have h0 : ∀ w, w < 2 ^ nf → yy w = qb_v (∃ k', k' < 0 ∧ q_H nf nc aF aT aL qL qF qT k' w) := by
      intro w hw
      have := qa_512 hnf hw
      rw [h w (by omega), qb_f (fun ⟨k', a, _⟩ => absurd a (Nat.not_lt_zero _))]
    refine br_t (nI_le (a := 512) (by omega) (by omega)) ?_
    by_cases z : nc = 0
    · refine br_t (by rw [z]; rfl) (Exists.intro 2 ?_)
      refine yw_work52 (N := 1) (by decide) hnf hnc ?_ 1 0 rfl mk yy h0
      intro mk' yy' hy
      refine K mk' yy' (fun w hw => ?_)
      rw [hy w hw]
      unfold q_Y
      rw [if_pos z]
    · refine br_f (nI_ne0 (by omega) (by omega)) (Exists.intro 217 ?_)
      refine yw_work52 (N := 216) (by decide) hnf hnc ?_ 216 0 rfl mk yy h0
      intro mk' yy' hy
      refine K mk' yy' (fun w hw => ?_)
      rw [hy w hw]
      unfold q_Y
      rw [if_neg z]
  | succ d ih =>
    intro i hi yy h
    have c3 : ¬ (512 : Int32) ≤ nI i := nI_ge (b := 512) (by omega) (by decide)
    refine br_f c3 ⟨qa_in (by omega), nm_r (e' := upd yy i 0) (by rw [qa_cl (by omega), qb_nar0]) (nm_r (nI_1 i) ?_)⟩
    refine ih (i + 1) (by omega) _ ?_
    intro v hv
    by_cases e : v = i
    · rw [e, pk_us]
    · rw [pk_un e]; exact h v (by omega)
theorem yw_work {post : SY → Prop} (hnf : nf ≤ 9) (hnc : nc ≤ 4) (hr : kn = 0 ∨ q_YS nf nc aF aT aL qL qF qT yy)
    (K : ∀ (kn' : Int32) (mk' yy' : Nat → Int32), q_YS nf nc aF aT aL qL qF qT yy' → post (nI nf, nI nc, kn', aF, aT, aL, aN, qL, qF, qT, mk', yy')) : wpY_work post (nI nf, nI nc, kn, aF, aT, aL, aN, qL, qF, qT, mk, yy) := by
  by_cases z : kn = 0
  · exact br_t z (Exists.intro 513 (yw_work15 hnf hnc (K 1) 512 0 rfl yy (fun w hw => by omega)))
  · exact br_f z (K kn mk yy (hr.resolve_left z))
end
end
section
/-! sums of weights: X folds, Y adds -/
def qf_w (aN : Nat → Int32) : Nat → Nat → Int32
  | 0, _ => 1
  | k + 1, s => qf_w aN k s * (if s.testBit k = true then aN k else 4 - aN k)
def qf_s (g : Nat → Int32) : Nat → Int32
  | 0 => 0
  | n + 1 => qf_s g n + g n
theorem qf_wt {aN : Nat → Int32} {k s : Nat} (h : s.testBit k = true) : qf_w aN (k + 1) s = qf_w aN k s * aN k := by
  show _ * (if s.testBit k = true then aN k else 4 - aN k) = _
  rw [if_pos h]
theorem qf_wf {aN : Nat → Int32} {k s : Nat} (h : s.testBit k = false) : qf_w aN (k + 1) s = qf_w aN k s * (4 - aN k) := by
  show _ * (if s.testBit k = true then aN k else 4 - aN k) = _
  rw [if_neg (by rw [h]; decide)]
theorem qf_cong {g h : Nat → Int32} : ∀ {n : Nat}, (∀ s, s < n → g s = h s) → qf_s g n = qf_s h n
  | 0, _ => rfl
  | n + 1, e => by
    show qf_s g n + g n = qf_s h n + h n
    rw [qf_cong (fun s hs => e s (by omega)), e n (by omega)]
theorem qf_app (g : Nat → Int32) (a : Nat) : ∀ b : Nat, qf_s g (a + b) = qf_s g a + qf_s (fun s => g (a + s)) b
  | 0 => by
    show qf_s g a = qf_s g a + 0
    rw [Int32.add_zero]
  | b + 1 => by
    show qf_s g (a + b) + g (a + b) = qf_s g a + (qf_s (fun s => g (a + s)) b + g (a + b))
    rw [qf_app g a b, Int32.add_assoc]
theorem qf_plus (g h : Nat → Int32) : ∀ n : Nat, qf_s (fun s => g s + h s) n = qf_s g n + qf_s h n
  | 0 => rfl
  | n + 1 => by
    show qf_s (fun s => g s + h s) n + (g n + h n) = (qf_s g n + g n) + (qf_s h n + h n)
    rw [qf_plus g h n]
    generalize qf_s g n = a
    generalize qf_s h n = b
    generalize g n = c
    generalize h n = d
    grind
theorem qf_wlow (aN : Nat → Int32) (i s : Nat) : ∀ k : Nat, k ≤ i → qf_w aN k (2 ^ i + s) = qf_w aN k s
  | 0, _ => rfl
  | k + 1, h => by
    show qf_w aN k (2 ^ i + s) * (if (2 ^ i + s).testBit k = true then aN k else 4 - aN k) = qf_w aN k s * (if s.testBit k = true then aN k else 4 - aN k)
    rw [qf_wlow aN i s k (by omega), Nat.testBit_two_pow_add_gt (by omega)]
theorem qf_ring (x y w a : Int32) : x * (w * (4 - a)) + y * (w * a) = (x * (4 - a) + y * a) * w := by grind
theorem qf_fold (aN g : Nat → Int32) (k : Nat) :
    qf_s (fun s => g s * qf_w aN (k + 1) s) (2 ^ (k + 1)) = qf_s (fun s => (g s * (4 - aN k) + g (s + 2 ^ k) * aN k) * qf_w aN k s) (2 ^ k) := by
  have e : 2 ^ (k + 1) = 2 ^ k + 2 ^ k := by rw [Nat.pow_succ]; omega
  rw [e, qf_app, ← qf_plus]
  refine qf_cong (fun s hs => ?_)
  have h1 : s.testBit k = false := Nat.testBit_lt_two_pow hs
  have h2 : (2 ^ k + s).testBit k = true := by rw [Nat.testBit_two_pow_add_eq, h1]; rfl
  show g s * qf_w aN (k + 1) s + g (2 ^ k + s) * qf_w aN (k + 1) (2 ^ k + s) = (g s * (4 - aN k) + g (s + 2 ^ k) * aN k) * qf_w aN k s
  rw [qf_wf h1, qf_wt h2, qf_wlow aN k s k (Nat.le_refl _), Nat.add_comm s (2 ^ k)]
  exact qf_ring _ _ _ _
/-- one for the worlds that answer yes and have all facts of x -/
def qf_g (ys : Nat → Int32) (x : Int32) (s : Nat) : Int32 := if ys s = 0 then 0 else if nI s &&& x = x then 1 else 0
section
variable {nf nc : Nat} {rd kn : Int32} {aF aT aL aN qL qF qT tr bd vl mt ys fd mk yy : Nat → Int32}
theorem xw_fold63 {post : Int32 → SX → Prop} {J : Int32 → (Nat → Int32) → (Nat → Int32) → (Nat → Int32) → (Nat → Int32) → (Nat → Int32) → (Nat → Int32) → (Nat → Int32) → (Nat → Int32) → (Nat → Int32) → (Nat → Int32) → (Nat → Int32) → (Nat → Int32) → (Nat → Int32) → Prop} {f : Nat} {g : Nat → Int32} (hf : f < 9)
    (K : ∀ fd' : Nat → Int32, (∀ s, s < 2 ^ f → fd' s = g s * (4 - aN f) + g (s + 2 ^ f) * aN f) → J (nI f + (-1)) aF aT aL aN qL qF qT tr bd vl mt ys fd') :
    ∀ d i : Nat, i + d = 2 ^ f → ∀ fd : Nat → Int32, (∀ s, s < i → fd s = g s * (4 - aN f) + g (s + 2 ^ f) * aN f) → (∀ s, i ≤ s → s < 2 ^ (f + 1) → fd s = g s) →
    wX_fold_63 post J (nI f) (nI (2 ^ f)) (nI nf) (nI nc) rd (d + 1) (nI i) aF aT aL aN qL qF qT tr bd vl mt ys fd := by
  have h9 : 2 ^ f ≤ 256 := by
    have z : 2 ^ f ≤ 2 ^ 8 := Nat.pow_le_pow_right (by decide) (by omega)
    exact z
  have e2 : 2 ^ (f + 1) = 2 ^ f + 2 ^ f := by rw [Nat.pow_succ]; omega
  intro d
  induction d with
  | zero =>
    intro i hi fd h1 h2
    exact br_t (nI_le (by omega) (by omega)) (nm_e (K fd (fun s hs => h1 s (by omega))))
  | succ d ih =>
    intro i hi fd h1 h2
    have c1 : ¬ nI (2 ^ f) ≤ nI i := nI_ge (by omega) (by omega)
    have hi5 : vp_in (nI i) 512 := qa_in (by omega)
    have ci : (nI i).toNatClampNeg = i := qa_cl (by omega)
    have hf9 : vp_in (nI f) 9 := vp_in_nI hf (by decide)
    have cf : (nI f).toNatClampNeg = f := nI_clamp (by omega)
    have ea : nI i + nI (2 ^ f) = nI (i + 2 ^ f) := nI_add _ _
    have ha5 : vp_in (nI i + nI (2 ^ f)) 512 := by rw [ea]; exact qa_in (by omega)
    have ca : (nI i + nI (2 ^ f)).toNatClampNeg = i + 2 ^ f := by rw [ea]; exact qa_cl (by omega)
    refine br_f c1 ⟨hi5, hf9, ha5, hf9, hi5, nm_r (e' := upd fd i (g i * (4 - aN f) + g (i + 2 ^ f) * aN f)) ?_ (nm_r (nI_1 i) ?_)⟩
    · rw [ci, cf, ca, h2 i (Nat.le_refl _) (by omega), h2 (i + 2 ^ f) (by omega) (by omega)]
    · refine ih (i + 1) (by omega) _ (fun s hs => ?_) (fun s hs hs2 => ?_)
      · by_cases e : s = i
        · rw [e, pk_us]
        · rw [pk_un e]; exact h1 s (by omega)
      · rw [pk_un (by omega)]; exact h2 s (by omega) hs2
theorem xw_fold52 {post : Int32 → SX → Prop} (hnf : nf ≤ 9) : ∀ k : Nat, k ≤ nf → ∀ (fd : Nat → Int32) (x : Int32), x = nI k + (-1) →
    (∀ fd' : Nat → Int32, post (qf_s (fun s => fd s * qf_w aN k s) (2 ^ k)) (nI nf, nI nc, rd, aF, aT, aL, aN, qL, qF, qT, tr, bd, vl, mt, ys, fd')) → wX_fold_52 post (nI nf) (nI nc) rd (k + 1) x aF aT aL aN qL qF qT tr bd vl mt ys fd := by
  intro k
  induction k with
  | zero =>
    intro hk fd x hx K
    subst hx
    have K' := K fd
    have e : qf_s (fun s => fd s * qf_w aN 0 s) (2 ^ 0) = fd 0 := by
      show 0 + fd 0 * 1 = fd 0
      rw [Int32.mul_one, Int32.zero_add]
    rw [e] at K'
    exact br_t (by decide) K'
  | succ f ih =>
    intro hk fd x hx K
    rw [pk_m1] at hx
    subst hx
    refine br_f (nI_pos (by omega)) (nm_r (qa_pw f (by omega)) (Exists.intro (2 ^ f + 1) ?_))
    refine xw_fold63 (g := fd) (by omega) ?_ (2 ^ f) 0 (by omega) fd (fun s hs => by omega) (fun s _ _ => rfl)
    intro fd' h
    refine ih (by omega) fd' _ rfl (fun fd2 => ?_)
    have K' := K fd2
    rw [qf_fold] at K'
    have e : qf_s (fun s => fd' s * qf_w aN f s) (2 ^ f) = qf_s (fun s => (fd s * (4 - aN f) + fd (s + 2 ^ f) * aN f) * qf_w aN f s) (2 ^ f) := by
      refine qf_cong (fun s hs => ?_)
      show fd' s * qf_w aN f s = _
      rw [h s hs]
    rw [e]
    exact K'
theorem xw_fold2 {post : Int32 → SX → Prop} {x : Int32} (hnf : nf ≤ 9)
    (K : ∀ fd' : Nat → Int32, post (qf_s (fun s => qf_g ys x s * qf_w aN nf s) (2 ^ nf)) (nI nf, nI nc, rd, aF, aT, aL, aN, qL, qF, qT, tr, bd, vl, mt, ys, fd')) :
    ∀ d i : Nat, i + d = 2 ^ nf → ∀ fd : Nat → Int32, (∀ s, s < i → fd s = qf_g ys x s) → wX_fold_2 post x (nI nf) (nI nc) rd (d + 1) (nI i) aF aT aL aN qL qF qT tr bd vl mt ys fd := by
  have h9 := qa_p9 hnf
  intro d
  induction d with
  | zero =>
    intro i hi fd h
    refine br_t (qa_le hnf (by omega) (by omega)) (nm_r (e' := nI nf + (-1)) (Int32.sub_eq_add_neg _ _) (Exists.intro (nf + 1) ?_))
    refine xw_fold52 hnf nf (Nat.le_refl _) fd _ rfl (fun fd' => ?_)
    have e : qf_s (fun s => fd s * qf_w aN nf s) (2 ^ nf) = qf_s (fun s => qf_g ys x s * qf_w aN nf s) (2 ^ nf) := by
      refine qf_cong (fun s hs => ?_)
      show fd s * qf_w aN nf s = _
      rw [h s (by omega)]
    rw [e]
    exact K fd'
  | succ d ih =>
    intro i hi fd h
    have hi2 : i < 2 ^ nf := by omega
    have h5 : i < 512 := by omega
    have c1 := qa_nle hnf hi2
    have ci := qa_cl h5
    have hin := qa_in h5
    have NEXT : ∀ y : Int32, y = qf_g ys x i → wX_fold_2 post x (nI nf) (nI nc) rd (d + 1) (nI (i + 1)) aF aT aL aN qL qF qT tr bd vl mt ys (upd fd i y) := by
      intro y hy
      refine ih (i + 1) (by omega) _ (fun s hs => ?_)
      by_cases e : s = i
      · rw [e, pk_us]; exact hy
      · rw [pk_un e]; exact h s (by omega)
    by_cases z : ys i = 0
    · refine br_f c1 ⟨hin, br_t (by rw [ci]; exact z) ⟨hin, nm_r (e' := upd fd i 0) (by rw [ci]) (nm_r (nI_1 i) (NEXT 0 ?_))⟩⟩
      unfold qf_g
      rw [if_pos z]
    · by_cases y : nI i &&& x = x
      · refine br_f c1 ⟨hin, br_f (by rw [ci]; exact z) (br_t y ⟨hin, nm_r (e' := upd fd i 1) (by rw [ci]) (nm_r (nI_1 i) (NEXT 1 ?_))⟩)⟩
        unfold qf_g
        rw [if_neg z, if_pos y]
      · refine br_f c1 ⟨hin, br_f (by rw [ci]; exact z) (br_f y ⟨hin, nm_r (e' := upd fd i 0) (by rw [ci]) (nm_r (nI_1 i) (NEXT 0 ?_))⟩)⟩
        unfold qf_g
        rw [if_neg z, if_neg y]
theorem xw_fold {post : Int32 → SX → Prop} {x : Int32} (hnf : nf ≤ 9)
    (K : ∀ fd' : Nat → Int32, post (qf_s (fun s => qf_g ys x s * qf_w aN nf s) (2 ^ nf)) (nI nf, nI nc, rd, aF, aT, aL, aN, qL, qF, qT, tr, bd, vl, mt, ys, fd')) : wpX_fold post (nI nf, nI nc, rd, aF, aT, aL, aN, qL, qF, qT, tr, bd, vl, mt, ys, fd) x :=
  Exists.intro (2 ^ nf + 1) (xw_fold2 hnf K (2 ^ nf) 0 (by omega) fd (fun s hs => by omega))
theorem yw_weight_lp {post : Int32 → Prop} {w : Nat} (hnf : nf ≤ 9) (hw : w < 512) (K : post (qf_w aN nf w)) :
    ∀ d i : Nat, i + d = nf → wY_weight_4 post (nI w) (nI nf) (nI nc) kn aF aT aL aN qL qF qT mk yy (d + 1) (qf_w aN i w) (nI i) := by
  intro d
  induction d with
  | zero =>
    intro i hi
    have e : i = nf := by omega
    subst e
    exact br_t (nI_le (Nat.le_refl _) (by omega)) K
  | succ d ih =>
    intro i hi
    have c1 : ¬ nI nf ≤ nI i := nI_ge (by omega) (by omega)
    have hi9 : vp_in (nI i) 9 := vp_in_nI (by omega) (by decide)
    have ci : (nI i).toNatClampNeg = i := nI_clamp (by omega)
    have hb := qa_b0 (s := w) (f := i) hw (by omega)
    cases z : w.testBit i with
    | false =>
      exact br_f c1 (br_t (hb.mpr z) ⟨hi9, nm_r (e' := qf_w aN (i + 1) w) (by rw [ci, qf_wf z]) (nm_r (nI_1 i) (ih (i + 1) (by omega)))⟩)
    | true =>
      exact br_f c1 (br_f (fun y => by rw [hb.mp y] at z; cases z) ⟨hi9, nm_r (e' := qf_w aN (i + 1) w) (by rw [ci, qf_wt z]) (nm_r (nI_1 i) (ih (i + 1) (by omega)))⟩)
theorem yw_weight {post : Int32 → Prop} {w : Nat} (hnf : nf ≤ 9) (hw : w < 512) (K : post (qf_w aN nf w)) : wpY_weight post (nI nf, nI nc, kn, aF, aT, aL, aN, qL, qF, qT, mk, yy) (nI w) :=
  Exists.intro (nf + 1) (yw_weight_lp hnf hw K nf 0 (by omega))
theorem yw_sum8 {post : Int32 → SY → Prop} {x : Int32} (hnf : nf ≤ 9) (K : post (qf_s (fun s => qf_g yy x s * qf_w aN nf s) (2 ^ nf)) (nI nf, nI nc, kn, aF, aT, aL, aN, qL, qF, qT, mk, yy)) :
    ∀ d i : Nat, i + d = 2 ^ nf → wY_sum_8 post x (nI nf) (nI nc) kn aF aT aL aN qL qF qT mk yy (d + 1) (qf_s (fun s => qf_g yy x s * qf_w aN nf s) i) (nI i) := by
  have h9 := qa_p9 hnf
  intro d
  induction d with
  | zero =>
    intro i hi
    have e : i = 2 ^ nf := by omega
    subst e
    exact br_t (qa_le hnf (Nat.le_refl _) (by omega)) K
  | succ d ih =>
    intro i hi
    have hi2 : i < 2 ^ nf := by omega
    have h5 : i < 512 := by omega
    have c1 := qa_nle hnf hi2
    have ci := qa_cl h5
    have hin := qa_in h5
    have IH := ih (i + 1) (by omega)
    have es : qf_s (fun s => qf_g yy x s * qf_w aN nf s) (i + 1) = qf_s (fun s => qf_g yy x s * qf_w aN nf s) i + qf_g yy x i * qf_w aN nf i := rfl
    rw [es] at IH
    by_cases z : yy i = 0
    · have e : qf_g yy x i = 0 := by unfold qf_g; rw [if_pos z]
      rw [e, Int32.zero_mul, Int32.add_zero] at IH
      exact br_f c1 ⟨hin, br_t (by rw [ci]; exact z) (nm_r (nI_1 i) IH)⟩
    · by_cases y : nI i &&& x = x
      · have e : qf_g yy x i = 1 := by unfold qf_g; rw [if_neg z, if_pos y]
        rw [e, Int32.one_mul] at IH
        exact br_f c1 ⟨hin, br_f (by rw [ci]; exact z) (br_t y (yw_weight hnf h5 (nm_e (nm_r (nI_1 i) IH))))⟩
      · have e : qf_g yy x i = 0 := by unfold qf_g; rw [if_neg z, if_neg y]
        rw [e, Int32.zero_mul, Int32.add_zero] at IH
        exact br_f c1 ⟨hin, br_f (by rw [ci]; exact z) (br_f y (nm_r (nI_1 i) IH))⟩
theorem yw_sum {post : Int32 → SY → Prop} {x : Int32} (hnf : nf ≤ 9) (hnc : nc ≤ 4) (hr : kn = 0 ∨ q_YS nf nc aF aT aL qL qF qT yy)
    (K : ∀ (kn' : Int32) (mk' yy' : Nat → Int32), q_YS nf nc aF aT aL qL qF qT yy' → post (qf_s (fun s => qf_g yy' x s * qf_w aN nf s) (2 ^ nf)) (nI nf, nI nc, kn', aF, aT, aL, aN, qL, qF, qT, mk', yy')) : wpY_sum post (nI nf, nI nc, kn, aF, aT, aL, aN, qL, qF, qT, mk, yy) x := by
  unfold wpY_sum
  refine yw_work hnf hnc hr ?_
  intro kn' mk' yy' hy
  exact Exists.intro (2 ^ nf + 1) (yw_sum8 hnf (K kn' mk' yy' hy) (2 ^ nf) 0 (by omega))
/-- both sides' sums are one -/
theorem qf_same {x : Int32} (h1 : q_YS nf nc aF aT aL qL qF qT ys) (h2 : q_YS nf nc aF aT aL qL qF qT yy) :
    qf_s (fun s => qf_g yy x s * qf_w aN nf s) (2 ^ nf) = qf_s (fun s => qf_g ys x s * qf_w aN nf s) (2 ^ nf) := by
  refine qf_cong (fun s hs => ?_)
  unfold qf_g
  rw [h1 s hs, h2 s hs]
end
end
section
/-! the questions: matters, fewest, reasons, all -/
section
variable {nf nc : Nat} {rd kn : Int32} {aF aT aL aN qL qF qT tr bd vl mt ys fd mk yy : Nat → Int32}
theorem xw_nfB {post : Int32 → Prop} {x : Int32} (h : x < 0 ∨ nI nf ≤ x) (K : post 1) : wpX_noFact post (nI nf, nI nc, rd, aF, aT, aL, aN, qL, qF, qT, tr, bd, vl, mt, ys, fd) x := by
  by_cases z : x < 0
  · exact br_t z K
  · exact br_f z (br_f (Int32.not_lt.mpr (h.resolve_left z)) K)
theorem xw_nfG {post : Int32 → Prop} {j : Nat} (hnf : nf ≤ 9) (h : j < nf) (K : post 0) : wpX_noFact post (nI nf, nI nc, rd, aF, aT, aL, aN, qL, qF, qT, tr, bd, vl, mt, ys, fd) (nI j) :=
  br_f (nI_pos (by omega)) (br_t (nI_lt h (by omega)) K)
theorem yw_nfB {post : Int32 → Prop} {x : Int32} (h : x < 0 ∨ nI nf ≤ x) (K : post 0) : wpY_isFact post (nI nf, nI nc, kn, aF, aT, aL, aN, qL, qF, qT, mk, yy) x := by
  by_cases z : x < 0
  · exact br_t z K
  · exact br_f z (br_t (h.resolve_left z) K)
theorem yw_nfG {post : Int32 → Prop} {j : Nat} (hnf : nf ≤ 9) (h : j < nf) (K : post 1) : wpY_isFact post (nI nf, nI nc, kn, aF, aT, aL, aN, qL, qF, qT, mk, yy) (nI j) :=
  br_f (nI_pos (by omega)) (br_f (nI_ge h (by omega)) K)
theorem xw_matters {post : Int32 → SX → Prop} {f : Nat} (hnf : nf ≤ 9) (hf : f < nf) (K : post (qb_v (∃ s, s < 2 ^ nf ∧ ys s ≠ ys (s ||| 2 ^ f))) (nI nf, nI nc, rd, aF, aT, aL, aN, qL, qF, qT, tr, bd, vl, mt, ys, fd)) :
    ∀ d i : Nat, i + d = 2 ^ nf → (∀ s, s < i → ys s = ys (s ||| 2 ^ f)) → wX_matters_16 post (nI f) (nI nf) (nI nc) rd aF aT aL aN qL qF qT tr bd vl mt ys fd (d + 1) (nI i) := by
  have h9 := qa_p9 hnf
  intro d
  induction d with
  | zero =>
    intro i hi h
    rw [qb_f (fun ⟨s, hs, hy⟩ => hy (h s (by omega)))] at K
    exact br_t (qa_le hnf (by omega) (by omega)) K
  | succ d ih =>
    intro i hi h
    have hi2 : i < 2 ^ nf := by omega
    have h5 : i < 512 := by omega
    have c1 := qa_nle hnf hi2
    have ci := qa_cl h5
    have hin := qa_in h5
    have l5 : i ||| 2 ^ f < 512 := qa_512 hnf (qa_olt hi2 hf)
    have eo := qa_or i h5 f (by omega)
    have hin2 : vp_in (nI i ||| ((1 : Int32) <<< (nI f &&& 31))) 512 := by rw [eo]; exact qa_in l5
    have ix : (nI i ||| ((1 : Int32) <<< (nI f &&& 31))).toNatClampNeg = i ||| 2 ^ f := by rw [eo]; exact qa_cl l5
    by_cases z : ys i = ys (i ||| 2 ^ f)
    · refine br_f c1 ⟨hin, hin2, br_t (by rw [ci, ix]; exact z) (nm_r (nI_1 i) ?_)⟩
      refine ih (i + 1) (by omega) (fun s hs => ?_)
      by_cases e : s = i
      · rw [e]; exact z
      · exact h s (by omega)
    · rw [qb_t ⟨i, hi2, z⟩] at K
      exact br_f c1 ⟨hin, hin2, br_f (by rw [ci, ix]; exact z) K⟩
theorem yw_matters {post : Int32 → SY → Prop} {f : Nat} (hnf : nf ≤ 9) (hf : f < nf) (K : post (qb_v (∃ s, s < 2 ^ nf ∧ yy s ≠ yy (s ^^^ 2 ^ f))) (nI nf, nI nc, kn, aF, aT, aL, aN, qL, qF, qT, mk, yy)) :
    ∀ d i : Nat, i + d = 2 ^ nf → (∀ s, s < i → yy s = yy (s ^^^ 2 ^ f)) → wY_matters_16 post (nI f) (nI nf) (nI nc) kn aF aT aL aN qL qF qT mk yy (d + 1) (nI i) := by
  have h9 := qa_p9 hnf
  intro d
  induction d with
  | zero =>
    intro i hi h
    rw [qb_f (fun ⟨s, hs, hy⟩ => hy (h s (by omega)))] at K
    exact br_t (qa_le hnf (by omega) (by omega)) K
  | succ d ih =>
    intro i hi h
    have hi2 : i < 2 ^ nf := by omega
    have h5 : i < 512 := by omega
    have c1 := qa_nle hnf hi2
    have ci := qa_cl h5
    have hin := qa_in h5
    have l5 : i ^^^ 2 ^ f < 512 := qa_512 hnf (qa_xlt hi2 hf)
    have eo := qa_xor i h5 f (by omega)
    have hin2 : vp_in (nI i ^^^ ((1 : Int32) <<< (nI f &&& 31))) 512 := by rw [eo]; exact qa_in l5
    have ix : (nI i ^^^ ((1 : Int32) <<< (nI f &&& 31))).toNatClampNeg = i ^^^ 2 ^ f := by rw [eo]; exact qa_cl l5
    by_cases z : yy i = yy (i ^^^ 2 ^ f)
    · refine br_f c1 ⟨hin, hin2, br_t (by rw [ci, ix]; exact z) (nm_r (nI_1 i) ?_)⟩
      refine ih (i + 1) (by omega) (fun s hs => ?_)
      by_cases e : s = i
      · rw [e]; exact z
      · exact h s (by omega)
    · rw [qb_t ⟨i, hi2, z⟩] at K
      exact br_f c1 ⟨hin, hin2, br_f (by rw [ci, ix]; exact z) K⟩
theorem qx_or {s f : Nat} (h : s.testBit f = true) : s ||| 2 ^ f = s := by
  refine Nat.eq_of_testBit_eq (fun i => ?_)
  by_cases e : f = i
  · rw [← e, qa_toS, h]
  · rw [qa_toN e]
theorem qx_xor {s f : Nat} (h : s.testBit f = false) : s ^^^ 2 ^ f = s ||| 2 ^ f := by
  refine Nat.eq_of_testBit_eq (fun i => ?_)
  by_cases e : f = i
  · rw [← e, qa_toS, qa_txS, h]; rfl
  · rw [qa_toN e, qa_txN e]
theorem qx_xor2 {s f : Nat} (h : s.testBit f = true) : (s ^^^ 2 ^ f) ||| 2 ^ f = s := by
  refine Nat.eq_of_testBit_eq (fun i => ?_)
  by_cases e : f = i
  · rw [← e, qa_toS, h]
  · rw [qa_toN e, qa_txN e]
theorem qx_matters {f : Nat} (hf : f < nf) (h1 : q_YS nf nc aF aT aL qL qF qT ys) (h2 : q_YS nf nc aF aT aL qL qF qT yy) :
    (∃ s, s < 2 ^ nf ∧ yy s ≠ yy (s ^^^ 2 ^ f)) ↔ ∃ s, s < 2 ^ nf ∧ ys s ≠ ys (s ||| 2 ^ f) := by
  have e : ∀ s, s < 2 ^ nf → yy s = ys s := fun s hs => by rw [h1 s hs, h2 s hs]
  constructor
  · rintro ⟨s, hs, hy⟩
    rw [e s hs, e _ (qa_xlt hs hf)] at hy
    cases hb : s.testBit f with
    | true =>
      refine ⟨s ^^^ 2 ^ f, qa_xlt hs hf, ?_⟩
      rw [qx_xor2 hb]
      exact fun z => hy z.symm
    | false =>
      refine ⟨s, hs, ?_⟩
      rw [← qx_xor hb]
      exact hy
  · rintro ⟨s, hs, hy⟩
    cases hb : s.testBit f with
    | true =>
      rw [qx_or hb] at hy
      exact absurd rfl hy
    | false =>
      refine ⟨s, hs, ?_⟩
      rw [e s hs, e _ (qa_xlt hs hf), qx_xor hb]
      exact hy
/-- the number of facts below k in a world -/
def qm_c : Nat → Nat → Nat
  | 0, _ => 0
  | k + 1, s => qm_c k s + if s.testBit k = true then 1 else 0
theorem qm_le (s : Nat) : ∀ k, qm_c k s ≤ k
  | 0 => Nat.le_refl _
  | k + 1 => by
    have := qm_le s k
    show qm_c k s + (if s.testBit k = true then 1 else 0) ≤ k + 1
    cases s.testBit k
    · rw [if_neg (by decide)]; omega
    · rw [if_pos rfl]; omega
theorem qm_mono {s w : Nat} (h : ∀ i, s.testBit i = true → w.testBit i = true) : ∀ k, qm_c k s ≤ qm_c k w
  | 0 => Nat.le_refl _
  | k + 1 => by
    have a := qm_mono h k
    show qm_c k s + (if s.testBit k = true then 1 else 0) ≤ qm_c k w + (if w.testBit k = true then 1 else 0)
    cases z : s.testBit k with
    | true => rw [h k z, if_pos rfl]; omega
    | false => rw [if_neg (by decide)]; omega
theorem qm_hi {s n : Nat} (hs : s < 2 ^ n) : ∀ d, qm_c (n + d) s = qm_c n s
  | 0 => rfl
  | d + 1 => by
    show qm_c (n + d) s + (if s.testBit (n + d) = true then 1 else 0) = _
    rw [Nat.testBit_lt_two_pow (Nat.lt_of_lt_of_le hs (Nat.pow_le_pow_right (by decide) (Nat.le_add_right n d))), qm_hi hs d]
    rfl
theorem qm_9 {s n : Nat} (hn : n ≤ 9) (hs : s < 2 ^ n) : qm_c 9 s = qm_c n s := by
  have := qm_hi hs (9 - n)
  rw [show n + (9 - n) = 9 by omega] at this
  exact this
theorem qm_add {s i : Nat} (hs : s < 512) (hi : i < 9) : nI (qm_c i s) + ((nI s >>> (nI i &&& 31)) &&& 1) = nI (qm_c (i + 1) s) := by
  rw [qa_bit s hs i hi]
  show _ = nI (qm_c i s + if s.testBit i = true then 1 else 0)
  cases s.testBit i
  · rw [if_neg (by decide), if_neg (by decide), Int32.add_zero, Nat.add_zero]
  · rw [if_pos rfl, if_pos rfl, nI_1]
theorem xw_ones {post : Int32 → Prop} {s : Nat} (hs : s < 512) (K : post (nI (qm_c 9 s))) : ∀ d i : Nat, i + d = 9 → wX_ones_4 post (nI s) (d + 1) (nI (qm_c i s)) (nI i) := by
  intro d
  induction d with
  | zero =>
    intro i hi
    have e : i = 9 := by omega
    subst e
    exact br_t (nI_le (a := 9) (by omega) (by omega)) K
  | succ d ih =>
    intro i hi
    have c1 : ¬ (9 : Int32) ≤ nI i := nI_ge (b := 9) (by omega) (by decide)
    exact br_f c1 (nm_r (qm_add hs (by omega)) (nm_r (nI_1 i) (ih (i + 1) (by omega))))
theorem yw_size {post : Int32 → Prop} {s : Nat} (hnf : nf ≤ 9) (hs : s < 512) (K : post (nI (qm_c nf s))) : ∀ d i : Nat, i + d = nf → wY_size_4 post (nI s) (nI nf) (nI nc) kn aF aT aL aN qL qF qT mk yy (d + 1) (nI (qm_c i s)) (nI i) := by
  intro d
  induction d with
  | zero =>
    intro i hi
    have e : i = nf := by omega
    subst e
    exact br_t (nI_le (Nat.le_refl _) (by omega)) K
  | succ d ih =>
    intro i hi
    have c1 : ¬ nI nf ≤ nI i := nI_ge (by omega) (by omega)
    exact br_f c1 (nm_r (qm_add hs (by omega)) (nm_r (nI_1 i) (ih (i + 1) (by omega))))
/-- x is the least number n s of the s below k with P s; -4 if there is none -/
def qm_is (P : Nat → Prop) (n : Nat → Nat) (k : Nat) (x : Int32) : Prop :=
  (x = -4 ∧ ∀ s, s < k → ¬ P s) ∨ ∃ m, m < 10 ∧ x = nI m ∧ (∃ s, s < k ∧ P s ∧ n s = m) ∧ ∀ s, s < k → P s → m ≤ n s
theorem qm_skip {P : Nat → Prop} {n : Nat → Nat} {k : Nat} {x : Int32} (h : qm_is P n k x) (hn : ¬ P k) : qm_is P n (k + 1) x := by
  rcases h with ⟨e, h⟩ | ⟨m, hm, e, ⟨s, a, b, c⟩, h⟩
  · refine Or.inl ⟨e, fun s hs => ?_⟩
    by_cases z : s = k
    · rw [z]; exact hn
    · exact h s (by omega)
  · refine Or.inr ⟨m, hm, e, ⟨s, by omega, b, c⟩, fun s hs hp => ?_⟩
    by_cases z : s = k
    · rw [z] at hp; exact absurd hp hn
    · exact h s (by omega) hp
theorem qm_first {P : Nat → Prop} {n : Nat → Nat} {k : Nat} {x : Int32} (h : qm_is P n k x) (hx : x < 0) (hp : P k) (hn : n k < 10) : qm_is P n (k + 1) (nI (n k)) := by
  rcases h with ⟨e, h⟩ | ⟨m, hm, e, _⟩
  · refine Or.inr ⟨n k, hn, rfl, ⟨k, by omega, hp, rfl⟩, fun s hs hq => ?_⟩
    by_cases z : s = k
    · rw [z]; exact Nat.le_refl _
    · exact absurd hq (h s (by omega))
  · rw [e] at hx
    exact absurd hx (nI_pos (by omega))
theorem qm_keep {P : Nat → Prop} {n : Nat → Nat} {k : Nat} {x : Int32} (h : qm_is P n k x) (hx : ¬ x < 0) (hl : x ≤ nI (n k)) (hn : n k < 10) : qm_is P n (k + 1) x := by
  rcases h with ⟨e, h⟩ | ⟨m, hm, e, ⟨s, a, b, c⟩, h⟩
  · rw [e] at hx
    exact absurd (by decide) hx
  · refine Or.inr ⟨m, hm, e, ⟨s, by omega, b, c⟩, fun s hs hp => ?_⟩
    by_cases z : s = k
    · rw [z]
      rw [e, nI_leI (by omega) (by omega)] at hl
      exact hl
    · exact h s (by omega) hp
theorem qm_take {P : Nat → Prop} {n : Nat → Nat} {k : Nat} {x : Int32} (h : qm_is P n k x) (hx : ¬ x < 0) (hl : ¬ x ≤ nI (n k)) (hp : P k) (hn : n k < 10) : qm_is P n (k + 1) (nI (n k)) := by
  rcases h with ⟨e, h⟩ | ⟨m, hm, e, ⟨s, a, b, c⟩, h⟩
  · rw [e] at hx
    exact absurd (by decide) hx
  · rw [e, nI_leI (by omega) (by omega)] at hl
    refine Or.inr ⟨n k, hn, rfl, ⟨k, by omega, hp, rfl⟩, fun s hs hq => ?_⟩
    by_cases z : s = k
    · rw [z]; exact Nat.le_refl _
    · have := h s (by omega) hq
      omega
theorem qm_same {P Q : Nat → Prop} {n n' : Nat → Nat} {k : Nat} {x y : Int32} (hx : qm_is P n k x) (hy : qm_is Q n' k y) (en : ∀ s, s < k → n s = n' s) (h1 : ∀ s, s < k → P s → Q s) (h2 : ∀ w, w < k → Q w → ∃ s, s < k ∧ P s ∧ n s ≤ n w) : y = x := by
  rcases hx with ⟨e, h⟩ | ⟨m, hm, e, ⟨s, a, b, c⟩, h⟩
  · rcases hy with ⟨e', h'⟩ | ⟨m', hm', e', ⟨s', a', b', c'⟩, h'⟩
    · rw [e, e']
    · obtain ⟨s, hs, hp, _⟩ := h2 s' a' b'
      exact absurd hp (h s hs)
  · rcases hy with ⟨e', h'⟩ | ⟨m', hm', e', ⟨s', a', b', c'⟩, h'⟩
    · exact absurd (h1 s a b) (h' s a)
    · obtain ⟨s2, hs2, hp2, hle⟩ := h2 s' a' b'
      have x1 := h s2 hs2 hp2
      have x2 := h' s a (h1 s a b)
      rw [en s' a', c'] at hle
      rw [← en s a, c] at x2
      have : m' = m := by omega
      rw [e, e', this]
theorem xw_fewest {post : Int32 → SX → Prop} (hnf : nf ≤ 9) (K : ∀ x, qm_is (fun s => mt s ≠ 0) (qm_c 9) (2 ^ nf) x → post x (nI nf, nI nc, rd, aF, aT, aL, aN, qL, qF, qT, tr, bd, vl, mt, ys, fd)) :
    ∀ d i : Nat, i + d = 2 ^ nf → ∀ x : Int32, qm_is (fun s => mt s ≠ 0) (qm_c 9) i x → wX_fewest_9 post (nI nf) (nI nc) rd aF aT aL aN qL qF qT tr bd vl mt ys fd (d + 1) x (nI i) := by
  have h9 := qa_p9 hnf
  intro d
  induction d with
  | zero =>
    intro i hi x h
    have e : i = 2 ^ nf := by omega
    subst e
    exact br_t (qa_le hnf (Nat.le_refl _) (by omega)) (K x h)
  | succ d ih =>
    intro i hi x h
    have hi2 : i < 2 ^ nf := by omega
    have h5 : i < 512 := by omega
    have c1 := qa_nle hnf hi2
    have ci := qa_cl h5
    have hin := qa_in h5
    have hl := qm_le i 9
    by_cases z : mt i = 0
    · exact br_f c1 ⟨hin, br_t (by rw [ci]; exact z) (nm_r (nI_1 i) (ih (i + 1) (by omega) x (qm_skip h (fun y => y z))))⟩
    · refine br_f c1 ⟨hin, br_f (by rw [ci]; exact z) (Exists.intro 10 (xw_ones h5 ?_ 9 0 rfl))⟩
      by_cases y : x < 0
      · exact br_t y (nm_r (nI_1 i) (ih (i + 1) (by omega) _ (qm_first h y z (by omega))))
      · by_cases w : x ≤ nI (qm_c 9 i)
        · exact br_f y (br_t w (nm_r (nI_1 i) (ih (i + 1) (by omega) _ (qm_keep h y w (by omega)))))
        · exact br_f y (br_f w (nm_r (nI_1 i) (ih (i + 1) (by omega) _ (qm_take h y w z (by omega)))))
theorem yw_fewest {post : Int32 → SY → Prop} (hnf : nf ≤ 9) (K : ∀ x, qm_is (fun s => yy s ≠ 0) (qm_c nf) (2 ^ nf) x → post x (nI nf, nI nc, kn, aF, aT, aL, aN, qL, qF, qT, mk, yy)) :
    ∀ d i : Nat, i + d = 2 ^ nf → ∀ x : Int32, qm_is (fun s => yy s ≠ 0) (qm_c nf) i x → wY_fewest_9 post (nI nf) (nI nc) kn aF aT aL aN qL qF qT mk yy (d + 1) x (nI i) := by
  have h9 := qa_p9 hnf
  intro d
  induction d with
  | zero =>
    intro i hi x h
    have e : i = 2 ^ nf := by omega
    subst e
    exact br_t (qa_le hnf (Nat.le_refl _) (by omega)) (K x h)
  | succ d ih =>
    intro i hi x h
    have hi2 : i < 2 ^ nf := by omega
    have h5 : i < 512 := by omega
    have c1 := qa_nle hnf hi2
    have ci := qa_cl h5
    have hin := qa_in h5
    have hl := qm_le i nf
    refine br_f c1 (Exists.intro (nf + 1) (yw_size hnf h5 ?_ nf 0 (by omega)))
    by_cases z : yy i = 0
    · exact ⟨hin, br_t (by rw [ci]; exact z) (nm_r (nI_1 i) (ih (i + 1) (by omega) x (qm_skip h (fun y => y z))))⟩
    · refine ⟨hin, br_f (by rw [ci]; exact z) ?_⟩
      by_cases y : x < 0
      · exact br_t y (nm_r (nI_1 i) (ih (i + 1) (by omega) _ (qm_first h y z (by omega))))
      · by_cases w : x ≤ nI (qm_c nf i)
        · exact br_f y (br_t w (nm_r (nI_1 i) (ih (i + 1) (by omega) _ (qm_keep h y w (by omega)))))
        · exact br_f y (br_f w (nm_r (nI_1 i) (ih (i + 1) (by omega) _ (qm_take h y w z (by omega)))))
theorem qx_fewest {x y : Int32} (hnf : nf ≤ 9) (h1 : q_MS nf nc aF aT aL qL qF qT mt) (h2 : q_YS nf nc aF aT aL qL qF qT yy) (hx : qm_is (fun s => mt s ≠ 0) (qm_c 9) (2 ^ nf) x) (hy : qm_is (fun s => yy s ≠ 0) (qm_c nf) (2 ^ nf) y) : y = x := by
  refine qm_same hx hy (fun s hs => qm_9 hnf hs) (fun s hs hm => ?_) (fun w hw hq => ?_)
  · show yy s ≠ 0
    rw [h2 s hs, qb_n0]
    exact h1.1 s hs hm
  · have hq' : yy w ≠ 0 := hq
    rw [h2 w hw, qb_n0] at hq'
    obtain ⟨s, hs, hm, hb⟩ := h1.2 w hw hq'
    exact ⟨s, hs, hm, qm_mono hb 9⟩
theorem yw_spare_lp {post : Int32 → Prop} {s : Nat} (hnf : nf ≤ 9) (hs : s < 512) (K : post (qb_v (q_bel nf yy s))) :
    ∀ d i : Nat, i + d = nf → (∀ f, f < i → s.testBit f = true → yy (s ^^^ 2 ^ f) = 0) → wY_spare_2 post (nI s) (nI nf) (nI nc) kn aF aT aL aN qL qF qT mk yy (d + 1) (nI i) := by
  intro d
  induction d with
  | zero =>
    intro i hi h
    have e : i = nf := by omega
    subst e
    rw [qb_f (fun ⟨f, hf, hb, hy⟩ => hy (h f hf hb))] at K
    exact br_t (nI_le (Nat.le_refl _) (by omega)) K
  | succ d ih =>
    intro i hi h
    have c1 : ¬ nI nf ≤ nI i := nI_ge (by omega) (by omega)
    have hb0 := qa_b0 (s := s) (f := i) hs (by omega)
    by_cases z : s.testBit i = true
    · have zb : ¬ (nI s >>> (nI i &&& 31)) &&& 1 = 0 := fun y => by rw [hb0.mp y] at z; cases z
      have ec := qa_xor s hs i (by omega)
      have lt : s ^^^ 2 ^ i < 512 := Nat.lt_trans (qa_xls hs (by omega) z) hs
      have hin : vp_in (nI s ^^^ ((1 : Int32) <<< (nI i &&& 31))) 512 := by rw [ec]; exact qa_in lt
      have ix : (nI s ^^^ ((1 : Int32) <<< (nI i &&& 31))).toNatClampNeg = s ^^^ 2 ^ i := by rw [ec]; exact qa_cl lt
      by_cases y : yy (s ^^^ 2 ^ i) = 0
      · refine br_f c1 (br_f zb ⟨hin, br_t (by rw [ix]; exact y) (nm_r (nI_1 i) ?_)⟩)
        refine ih (i + 1) (by omega) (fun f hf hb => ?_)
        by_cases e : f = i
        · rw [e]; exact y
        · exact h f (by omega) hb
      · rw [qb_t ⟨i, by omega, z, y⟩] at K
        exact br_f c1 (br_f zb ⟨hin, br_f (by rw [ix]; exact y) K⟩)
    · have zb : (nI s >>> (nI i &&& 31)) &&& 1 = 0 := hb0.mpr (by cases e : s.testBit i with | true => exact absurd e z | false => rfl)
      refine br_f c1 (br_t zb (nm_r (nI_1 i) ?_))
      refine ih (i + 1) (by omega) (fun f hf hb => ?_)
      by_cases e : f = i
      · rw [e] at hb; exact absurd hb z
      · exact h f (by omega) hb
theorem yw_spare {post : Int32 → Prop} {s : Nat} (hnf : nf ≤ 9) (hs : s < 512) (K : post (qb_v (q_bel nf yy s))) : wpY_spare post (nI nf, nI nc, kn, aF, aT, aL, aN, qL, qF, qT, mk, yy) (nI s) :=
  Exists.intro (nf + 1) (yw_spare_lp hnf hs K nf 0 (by omega) (fun f hf => by omega))
/-- how many smallest worlds answer yes, below k -/
noncomputable def qr_c (nf : Nat) (ys : Nat → Int32) : Nat → Int32
  | 0 => 0
  | k + 1 => @ite Int32 (ys k ≠ 0 ∧ ¬ q_bel nf ys k) (Classical.propDecidable _) (qr_c nf ys k + 1) (qr_c nf ys k)
theorem qr_t {k : Nat} (h : ys k ≠ 0 ∧ ¬ q_bel nf ys k) : qr_c nf ys (k + 1) = qr_c nf ys k + 1 := if_pos h
theorem qr_f {k : Nat} (h : ¬ (ys k ≠ 0 ∧ ¬ q_bel nf ys k)) : qr_c nf ys (k + 1) = qr_c nf ys k := if_neg h
theorem xw_reasons {post : Int32 → SX → Prop} (hnf : nf ≤ 9) (K : post (qr_c nf ys (2 ^ nf)) (nI nf, nI nc, rd, aF, aT, aL, aN, qL, qF, qT, tr, bd, vl, mt, ys, fd)) :
    ∀ d i : Nat, i + d = 2 ^ nf → wX_reasons_8 post (nI nf) (nI nc) rd aF aT aL aN qL qF qT tr bd vl mt ys fd (d + 1) (qr_c nf ys i) (nI i) := by
  have h9 := qa_p9 hnf
  intro d
  induction d with
  | zero =>
    intro i hi
    have e : i = 2 ^ nf := by omega
    subst e
    exact br_t (qa_le hnf (Nat.le_refl _) (by omega)) K
  | succ d ih =>
    intro i hi
    have hi2 : i < 2 ^ nf := by omega
    have h5 : i < 512 := by omega
    have c1 := qa_nle hnf hi2
    have ci := qa_cl h5
    have hin := qa_in h5
    have IH := ih (i + 1) (by omega)
    by_cases z : ys i = 0
    · rw [qr_f (fun y => y.1 z)] at IH
      exact br_f c1 ⟨hin, br_t (by rw [ci]; exact z) (nm_r (nI_1 i) IH)⟩
    · refine br_f c1 ⟨hin, br_f (by rw [ci]; exact z) (xw_below hnf h5 ?_)⟩
      by_cases y : q_bel nf ys i
      · rw [qr_f (fun w => w.2 y)] at IH
        exact br_f (qb_n0.mpr y) (nm_r (nI_1 i) IH)
      · rw [qr_t ⟨z, y⟩] at IH
        exact br_t (qb_0.mpr y) (nm_e (nm_r (nI_1 i) IH))
theorem yw_reasons {post : Int32 → SY → Prop} (hnf : nf ≤ 9) (K : post (qr_c nf yy (2 ^ nf)) (nI nf, nI nc, kn, aF, aT, aL, aN, qL, qF, qT, mk, yy)) :
    ∀ d i : Nat, i + d = 2 ^ nf → wY_reasons_8 post (nI nf) (nI nc) kn aF aT aL aN qL qF qT mk yy (d + 1) (qr_c nf yy i) (nI i) := by
  have h9 := qa_p9 hnf
  intro d
  induction d with
  | zero =>
    intro i hi
    have e : i = 2 ^ nf := by omega
    subst e
    exact br_t (qa_le hnf (Nat.le_refl _) (by omega)) K
  | succ d ih =>
    intro i hi
    have hi2 : i < 2 ^ nf := by omega
    have h5 : i < 512 := by omega
    have c1 := qa_nle hnf hi2
    have ci := qa_cl h5
    have hin := qa_in h5
    have IH := ih (i + 1) (by omega)
    by_cases z : yy i = 0
    · rw [qr_f (fun y => y.1 z)] at IH
      exact br_f c1 ⟨hin, br_t (by rw [ci]; exact z) (nm_r (nI_1 i) IH)⟩
    · refine br_f c1 ⟨hin, br_f (by rw [ci]; exact z) (yw_spare hnf h5 ?_)⟩
      by_cases y : q_bel nf yy i
      · rw [qr_f (fun w => w.2 y)] at IH
        exact br_f (qb_n0.mpr y) (nm_r (nI_1 i) IH)
      · rw [qr_t ⟨z, y⟩] at IH
        exact br_t (qb_0.mpr y) (nm_e (nm_r (nI_1 i) IH))
theorem qx_reasons (h1 : q_YS nf nc aF aT aL qL qF qT ys) (h2 : q_YS nf nc aF aT aL qL qF qT yy) : ∀ k, k ≤ 2 ^ nf → qr_c nf yy k = qr_c nf ys k := by
  have e : ∀ s, s < 2 ^ nf → yy s = ys s := fun s hs => by rw [h1 s hs, h2 s hs]
  intro k
  induction k with
  | zero => intro _; rfl
  | succ k ih =>
    intro hk
    have ek := e k (by omega)
    have eb : q_bel nf yy k ↔ q_bel nf ys k := by
      constructor
      · rintro ⟨f, hf, hb, hy⟩
        exact ⟨f, hf, hb, by rw [← e _ (qa_xlt (by omega) hf)]; exact hy⟩
      · rintro ⟨f, hf, hb, hy⟩
        exact ⟨f, hf, hb, by rw [e _ (qa_xlt (by omega) hf)]; exact hy⟩
    rcases Classical.em (ys k ≠ 0 ∧ ¬ q_bel nf ys k) with z | z
    · rw [qr_t z, qr_t (ys := yy) ⟨by rw [ek]; exact z.1, fun w => z.2 (eb.mp w)⟩, ih (by omega)]
    · rw [qr_f z, qr_f (ys := yy) (fun w => z ⟨by rw [← ek]; exact w.1, fun v => w.2 (eb.mpr v)⟩), ih (by omega)]
def qw_4 : Nat → Int32
  | 0 => 1
  | k + 1 => qw_4 k * 4
theorem qw_all : ∀ n, n < 10 → (1 : Int32) <<< ((2 * nI n) &&& 31) = qw_4 n := by decide +kernel
theorem yw_all {post : Int32 → Prop} (hnf : nf ≤ 9) (K : post (qw_4 nf)) : ∀ d i : Nat, i + d = nf → wY_all_4 post (nI nf) (nI nc) kn aF aT aL aN qL qF qT mk yy (d + 1) (qw_4 i) (nI i) := by
  intro d
  induction d with
  | zero =>
    intro i hi
    have e : i = nf := by omega
    subst e
    exact br_t (nI_le (Nat.le_refl _) (by omega)) K
  | succ d ih =>
    intro i hi
    have c1 : ¬ nI nf ≤ nI i := nI_ge (by omega) (by omega)
    exact br_f c1 (nm_e (nm_r (nI_1 i) (ih (i + 1) (by omega))))
end
end
section
/-! each method at its own name -/
section
variable {nf nc : Nat} {rd kn : Int32} {aF aT aL aN qL qF qT tr bd vl mt ys fd mk yy : Nat → Int32}
theorem xw_likB {post : Int32 → SX → Prop} {x n : Int32} (h : x < 0 ∨ nI nf ≤ x) (K : post (-4) (nI nf, nI nc, rd, aF, aT, aL, aN, qL, qF, qT, tr, bd, vl, mt, ys, fd)) : wpX_likely post (nI nf, nI nc, rd, aF, aT, aL, aN, qL, qF, qT, tr, bd, vl, mt, ys, fd) x n := by
  unfold wpX_likely
  exact xw_nfB h (br_f (by decide) K)
theorem xw_likN {post : Int32 → SX → Prop} {j : Nat} {n : Int32} (hnf : nf ≤ 9) (hj : j < nf) (h : n < 1 ∨ ¬ n ≤ 4) (K : post (-2) (nI nf, nI nc, rd, aF, aT, aL, aN, qL, qF, qT, tr, bd, vl, mt, ys, fd)) : wpX_likely post (nI nf, nI nc, rd, aF, aT, aL, aN, qL, qF, qT, tr, bd, vl, mt, ys, fd) (nI j) n := by
  unfold wpX_likely
  refine xw_nfG hnf hj (br_t rfl ?_)
  by_cases z : n < 1
  · exact br_t z K
  · exact br_f z (br_f (h.resolve_left z) K)
theorem xw_likG {post : Int32 → SX → Prop} {j : Nat} {n : Int32} (hnf : nf ≤ 9) (hj : j < nf) (h1 : ¬ n < 1) (h4 : n ≤ 4) (K : post (aN j) (nI nf, nI nc, rd, aF, aT, aL, upd aN j n, qL, qF, qT, tr, bd, vl, mt, ys, fd)) : wpX_likely post (nI nf, nI nc, rd, aF, aT, aL, aN, qL, qF, qT, tr, bd, vl, mt, ys, fd) (nI j) n := by
  have hi : vp_in (nI j) 9 := vp_in_nI (by omega) (by decide)
  have cj : (nI j).toNatClampNeg = j := nI_clamp (by omega)
  unfold wpX_likely
  exact xw_nfG hnf hj (br_t rfl (br_f h1 (br_t h4 ⟨hi, nm_r (e' := aN j) (by rw [cj]) ⟨hi, nm_r (e' := upd aN j n) (by rw [cj]) K⟩⟩)))
theorem yw_likB {post : Int32 → SY → Prop} {x n : Int32} (h : x < 0 ∨ nI nf ≤ x) (K : post (-4) (nI nf, nI nc, kn, aF, aT, aL, aN, qL, qF, qT, mk, yy)) : wpY_likely post (nI nf, nI nc, kn, aF, aT, aL, aN, qL, qF, qT, mk, yy) x n := by
  unfold wpY_likely
  exact yw_nfB h (br_t rfl K)
theorem yw_likN {post : Int32 → SY → Prop} {j : Nat} {n : Int32} (hnf : nf ≤ 9) (hj : j < nf) (h : n < 1 ∨ ¬ n ≤ 4) (K : post (-2) (nI nf, nI nc, kn, aF, aT, aL, aN, qL, qF, qT, mk, yy)) : wpY_likely post (nI nf, nI nc, kn, aF, aT, aL, aN, qL, qF, qT, mk, yy) (nI j) n := by
  unfold wpY_likely
  refine yw_nfG hnf hj (br_f (by decide) ?_)
  by_cases z : n < 1
  · exact br_t z K
  · exact br_f z (br_f (h.resolve_left z) K)
theorem yw_likG {post : Int32 → SY → Prop} {j : Nat} {n : Int32} (hnf : nf ≤ 9) (hj : j < nf) (h1 : ¬ n < 1) (h4 : n ≤ 4) (K : post (aN j) (nI nf, nI nc, kn, aF, aT, aL, upd aN j n, qL, qF, qT, mk, yy)) : wpY_likely post (nI nf, nI nc, kn, aF, aT, aL, aN, qL, qF, qT, mk, yy) (nI j) n := by
  have hi : vp_in (nI j) 9 := vp_in_nI (by omega) (by decide)
  have cj : (nI j).toNatClampNeg = j := nI_clamp (by omega)
  unfold wpY_likely
  exact yw_nfG hnf hj (br_f (by decide) (br_f h1 (br_t h4 ⟨hi, nm_r (e' := aN j) (by rw [cj]) ⟨hi, nm_r (e' := upd aN j n) (by rw [cj]) K⟩⟩)))
theorem xw_bpG {post : Int32 → Prop} {p : Int32} (h : qp_pl p) (K : post 0) : wpX_badPlace post p := by
  obtain ⟨j, rfl, h⟩ := h
  have hj : j < 14 := by omega
  have c14 : nI j < 14 := nI_lt (b := 14) hj (by decide)
  have c0 : ¬ nI j < 0 := nI_pos (by omega)
  by_cases z : j ≤ 2
  · exact br_f c0 (br_t (nI_le (b := 2) z (by decide)) (br_t c14 K))
  · have c2 : ¬ nI j ≤ 2 := nI_ge (a := 2) (by omega) (by omega)
    exact br_f c0 (br_f c2 (br_f (q_nlt8 (by omega) hj) (br_t c14 K)))
theorem xw_bpB {post : Int32 → Prop} {p : Int32} (h : ¬ qp_pl p) (K : post 1) : wpX_badPlace post p := by
  by_cases c0 : p < 0
  · exact br_t c0 K
  · obtain ⟨j, hj, rfl⟩ := nI_of c0
    have h3 : ¬ (j < 3 ∨ (8 ≤ j ∧ j < 14)) := fun z => h ⟨j, rfl, z⟩
    have c2 : ¬ nI j ≤ 2 := nI_ge (a := 2) (by omega) hj
    by_cases z : j < 8
    · exact br_f c0 (br_f c2 (br_t (q_lt8 z) K))
    · have c8 : ¬ nI j < 8 := nI_nlt (b := 8) (by omega) hj
      have c14 : ¬ nI j < 14 := nI_nlt (b := 14) (by omega) hj
      exact br_f c0 (br_f c2 (br_f c8 (br_f c14 K)))
theorem yw_ieG {post : Int32 → Prop} {p : Int32} (h : qp_pl p) (K : post 1) : wpY_isEnd post (nI nf, nI nc, kn, aF, aT, aL, aN, qL, qF, qT, mk, yy) p := by
  obtain ⟨j, rfl, h⟩ := h
  have hj : j < 14 := by omega
  have c0 : ¬ nI j < 0 := nI_pos (by omega)
  by_cases z : j ≤ 2
  · exact br_f c0 (br_t (nI_le (b := 2) z (by decide)) K)
  · have c2 : ¬ nI j ≤ 2 := nI_ge (a := 2) (by omega) (by omega)
    have c13 : ¬ 13 < nI j := nI_nlt (a := 13) (by omega) (by decide)
    exact br_f c0 (br_f c2 (br_f (q_nlt8 (by omega) hj) (br_f c13 K)))
theorem yw_ieB {post : Int32 → Prop} {p : Int32} (h : ¬ qp_pl p) (K : post 0) : wpY_isEnd post (nI nf, nI nc, kn, aF, aT, aL, aN, qL, qF, qT, mk, yy) p := by
  by_cases c0 : p < 0
  · have c8 : p < 8 := Int32.lt_trans c0 (by decide)
    exact br_t c0 (br_t c8 K)
  · obtain ⟨j, hj, rfl⟩ := nI_of c0
    have h3 : ¬ (j < 3 ∨ (8 ≤ j ∧ j < 14)) := fun z => h ⟨j, rfl, z⟩
    have c2 : ¬ nI j ≤ 2 := nI_ge (a := 2) (by omega) hj
    by_cases z : j < 8
    · exact br_f c0 (br_f c2 (br_t (q_lt8 z) K))
    · have c8 : ¬ nI j < 8 := nI_nlt (b := 8) (by omega) hj
      have c13 : 13 < nI j := nI_lt (a := 13) (by omega) hj
      exact br_f c0 (br_f c2 (br_f c8 (br_t c13 K)))
theorem xw_conB {post : Int32 → SX → Prop} {l x y : Int32} (h : ¬ (qp_pl x ∧ qp_pl y)) (K : post (-1) (nI nf, nI nc, rd, aF, aT, aL, aN, qL, qF, qT, tr, bd, vl, mt, ys, fd)) : wpX_condition post (nI nf, nI nc, rd, aF, aT, aL, aN, qL, qF, qT, tr, bd, vl, mt, ys, fd) l x y := by
  unfold wpX_condition
  by_cases z : qp_pl x
  · exact xw_bpG z (br_t rfl (xw_bpB (fun w => h ⟨z, w⟩) (br_f (by decide) K)))
  · exact xw_bpB z (br_f (by decide) K)
theorem xw_conF {post : Int32 → SX → Prop} {l x y : Int32} (hx : qp_pl x) (hy : qp_pl y) (h : nc = 4) (K : post (-3) (nI nf, nI nc, rd, aF, aT, aL, aN, qL, qF, qT, tr, bd, vl, mt, ys, fd)) : wpX_condition post (nI nf, nI nc, rd, aF, aT, aL, aN, qL, qF, qT, tr, bd, vl, mt, ys, fd) l x y := by
  unfold wpX_condition
  exact xw_bpG hx (br_t rfl (xw_bpG hy (br_t rfl (br_f (by rw [h]; decide) K))))
theorem xw_conG {post : Int32 → SX → Prop} {l x y : Int32} (hx : qp_pl x) (hy : qp_pl y) (h : nc < 4) (K : post (nI (nc + 1)) (nI nf, nI (nc + 1), 0, aF, aT, aL, aN, upd qL nc (l &&& 1), upd qF nc x, upd qT nc y, tr, bd, vl, mt, ys, fd)) : wpX_condition post (nI nf, nI nc, rd, aF, aT, aL, aN, qL, qF, qT, tr, bd, vl, mt, ys, fd) l x y := by
  have hi : vp_in (nI nc) 4 := vp_in_nI h (by decide)
  have cc : (nI nc).toNatClampNeg = nc := nI_clamp (by omega)
  have h4 : nI nc < 4 := nI_lt (b := 4) h (by decide)
  unfold wpX_condition
  exact xw_bpG hx (br_t rfl (xw_bpG hy (br_t rfl (br_t h4 ⟨hi, nm_r (e' := upd qL nc (l &&& 1)) (by rw [cc]) ⟨hi, nm_r (e' := upd qF nc x) (by rw [cc]) ⟨hi, nm_r (e' := upd qT nc y) (by rw [cc]) (nm_r (nI_1 nc) K)⟩⟩⟩))))
theorem yw_conB {post : Int32 → SY → Prop} {l x y : Int32} (h : ¬ (qp_pl x ∧ qp_pl y)) (K : post (-1) (nI nf, nI nc, kn, aF, aT, aL, aN, qL, qF, qT, mk, yy)) : wpY_condition post (nI nf, nI nc, kn, aF, aT, aL, aN, qL, qF, qT, mk, yy) l x y := by
  unfold wpY_condition
  by_cases z : qp_pl x
  · exact yw_ieG z (br_f (by decide) (yw_ieB (fun w => h ⟨z, w⟩) (br_t rfl K)))
  · exact yw_ieB z (br_t rfl K)
theorem yw_conF {post : Int32 → SY → Prop} {l x y : Int32} (hx : qp_pl x) (hy : qp_pl y) (h : nc = 4) (K : post (-3) (nI nf, nI nc, kn, aF, aT, aL, aN, qL, qF, qT, mk, yy)) : wpY_condition post (nI nf, nI nc, kn, aF, aT, aL, aN, qL, qF, qT, mk, yy) l x y := by
  unfold wpY_condition
  exact yw_ieG hx (br_f (by decide) (yw_ieG hy (br_f (by decide) (br_t (by rw [h]; rfl) K))))
theorem yw_conG {post : Int32 → SY → Prop} {l x y : Int32} (hx : qp_pl x) (hy : qp_pl y) (h : nc < 4) (K : post (nI (nc + 1)) (nI nf, nI (nc + 1), 0, aF, aT, aL, aN, upd qL nc (l &&& 1), upd qF nc x, upd qT nc y, mk, yy)) : wpY_condition post (nI nf, nI nc, kn, aF, aT, aL, aN, qL, qF, qT, mk, yy) l x y := by
  have hi : vp_in (nI nc) 4 := vp_in_nI h (by decide)
  have cc : (nI nc).toNatClampNeg = nc := nI_clamp (by omega)
  have h4 : ¬ nI nc = 4 := fun z => by
    have := (nI_eq (a := nc) (b := 4) (by omega) (by decide)).mp z
    omega
  unfold wpY_condition
  exact yw_ieG hx (br_f (by decide) (yw_ieG hy (br_f (by decide) (br_f h4 ⟨hi, nm_r (e' := upd qL nc (l &&& 1)) (by rw [cc]) ⟨hi, nm_r (e' := upd qF nc x) (by rw [cc]) ⟨hi, nm_r (e' := upd qT nc y) (by rw [cc]) (nm_r (nI_1 nc) K)⟩⟩⟩))))
theorem xw_share {post : Int32 → SX → Prop} (hnf : nf ≤ 9) (hnc : nc ≤ 4) (hpl : ∀ c, c < nc → qp_pl (qF c) ∧ qp_pl (qT c)) (hnd : ∀ i, i < nf → qp_nd (aF i) ∧ qp_nd (aT i))
    (hr : rd = 0 ∨ (q_MS nf nc aF aT aL qL qF qT mt ∧ q_YS nf nc aF aT aL qL qF qT ys))
    (K : ∀ (rd' : Int32) (tr' bd' vl' mt' ys' fd' : Nat → Int32), q_MS nf nc aF aT aL qL qF qT mt' → q_YS nf nc aF aT aL qL qF qT ys' → post (qf_s (fun s => qf_g ys' 0 s * qf_w aN nf s) (2 ^ nf)) (nI nf, nI nc, rd', aF, aT, aL, aN, qL, qF, qT, tr', bd', vl', mt', ys', fd')) : wpX_share post (nI nf, nI nc, rd, aF, aT, aL, aN, qL, qF, qT, tr, bd, vl, mt, ys, fd) := by
  unfold wpX_share
  refine xw_prep hnf hnc hpl hnd hr ?_
  intro rd' tr' bd' vl' mt' ys' hm hy
  exact xw_fold hnf (fun fd' => K rd' tr' bd' vl' mt' ys' fd' hm hy)
theorem xw_shwB {post : Int32 → SX → Prop} {x : Int32} (h : x < 0 ∨ nI nf ≤ x) (K : post (-4) (nI nf, nI nc, rd, aF, aT, aL, aN, qL, qF, qT, tr, bd, vl, mt, ys, fd)) : wpX_shareWith post (nI nf, nI nc, rd, aF, aT, aL, aN, qL, qF, qT, tr, bd, vl, mt, ys, fd) x := by
  unfold wpX_shareWith
  exact xw_nfB h (br_f (by decide) K)
theorem xw_shwG {post : Int32 → SX → Prop} {j : Nat} (hj : j < nf) (hnf : nf ≤ 9) (hnc : nc ≤ 4) (hpl : ∀ c, c < nc → qp_pl (qF c) ∧ qp_pl (qT c)) (hnd : ∀ i, i < nf → qp_nd (aF i) ∧ qp_nd (aT i))
    (hr : rd = 0 ∨ (q_MS nf nc aF aT aL qL qF qT mt ∧ q_YS nf nc aF aT aL qL qF qT ys))
    (K : ∀ (rd' : Int32) (tr' bd' vl' mt' ys' fd' : Nat → Int32), q_MS nf nc aF aT aL qL qF qT mt' → q_YS nf nc aF aT aL qL qF qT ys' → post (qf_s (fun s => qf_g ys' ((1 : Int32) <<< (nI j &&& 31)) s * qf_w aN nf s) (2 ^ nf)) (nI nf, nI nc, rd', aF, aT, aL, aN, qL, qF, qT, tr', bd', vl', mt', ys', fd')) : wpX_shareWith post (nI nf, nI nc, rd, aF, aT, aL, aN, qL, qF, qT, tr, bd, vl, mt, ys, fd) (nI j) := by
  unfold wpX_shareWith
  refine xw_nfG hnf hj (br_t rfl ?_)
  refine xw_prep hnf hnc hpl hnd hr ?_
  intro rd' tr' bd' vl' mt' ys' hm hy
  exact xw_fold hnf (fun fd' => K rd' tr' bd' vl' mt' ys' fd' hm hy)
theorem yw_share {post : Int32 → SY → Prop} (hnf : nf ≤ 9) (hnc : nc ≤ 4) (hr : kn = 0 ∨ q_YS nf nc aF aT aL qL qF qT yy)
    (K : ∀ (kn' : Int32) (mk' yy' : Nat → Int32), q_YS nf nc aF aT aL qL qF qT yy' → post (qf_s (fun s => qf_g yy' 0 s * qf_w aN nf s) (2 ^ nf)) (nI nf, nI nc, kn', aF, aT, aL, aN, qL, qF, qT, mk', yy')) : wpY_share post (nI nf, nI nc, kn, aF, aT, aL, aN, qL, qF, qT, mk, yy) := by
  unfold wpY_share
  exact yw_sum hnf hnc hr (fun kn' mk' yy' hy => K kn' mk' yy' hy)
theorem yw_shwB {post : Int32 → SY → Prop} {x : Int32} (h : x < 0 ∨ nI nf ≤ x) (K : post (-4) (nI nf, nI nc, kn, aF, aT, aL, aN, qL, qF, qT, mk, yy)) : wpY_shareWith post (nI nf, nI nc, kn, aF, aT, aL, aN, qL, qF, qT, mk, yy) x := by
  unfold wpY_shareWith
  exact yw_nfB h (br_t rfl K)
theorem yw_shwG {post : Int32 → SY → Prop} {j : Nat} (hj : j < nf) (hnf : nf ≤ 9) (hnc : nc ≤ 4) (hr : kn = 0 ∨ q_YS nf nc aF aT aL qL qF qT yy)
    (K : ∀ (kn' : Int32) (mk' yy' : Nat → Int32), q_YS nf nc aF aT aL qL qF qT yy' → post (qf_s (fun s => qf_g yy' ((1 : Int32) <<< (nI j &&& 31)) s * qf_w aN nf s) (2 ^ nf)) (nI nf, nI nc, kn', aF, aT, aL, aN, qL, qF, qT, mk', yy')) : wpY_shareWith post (nI nf, nI nc, kn, aF, aT, aL, aN, qL, qF, qT, mk, yy) (nI j) := by
  unfold wpY_shareWith
  refine yw_nfG hnf hj (br_f (by decide) ?_)
  exact yw_sum hnf hnc hr (fun kn' mk' yy' hy => K kn' mk' yy' hy)
theorem xw_matB {post : Int32 → SX → Prop} {x : Int32} (h : x < 0 ∨ nI nf ≤ x) (K : post 0 (nI nf, nI nc, rd, aF, aT, aL, aN, qL, qF, qT, tr, bd, vl, mt, ys, fd)) : wpX_matters post (nI nf, nI nc, rd, aF, aT, aL, aN, qL, qF, qT, tr, bd, vl, mt, ys, fd) x := by
  unfold wpX_matters
  exact xw_nfB h (br_f (by decide) K)
theorem xw_matG {post : Int32 → SX → Prop} {j : Nat} (hj : j < nf) (hnf : nf ≤ 9) (hnc : nc ≤ 4) (hpl : ∀ c, c < nc → qp_pl (qF c) ∧ qp_pl (qT c)) (hnd : ∀ i, i < nf → qp_nd (aF i) ∧ qp_nd (aT i))
    (hr : rd = 0 ∨ (q_MS nf nc aF aT aL qL qF qT mt ∧ q_YS nf nc aF aT aL qL qF qT ys))
    (K : ∀ (rd' : Int32) (tr' bd' vl' mt' ys' : Nat → Int32), q_MS nf nc aF aT aL qL qF qT mt' → q_YS nf nc aF aT aL qL qF qT ys' → post (qb_v (∃ s, s < 2 ^ nf ∧ ys' s ≠ ys' (s ||| 2 ^ j))) (nI nf, nI nc, rd', aF, aT, aL, aN, qL, qF, qT, tr', bd', vl', mt', ys', fd)) : wpX_matters post (nI nf, nI nc, rd, aF, aT, aL, aN, qL, qF, qT, tr, bd, vl, mt, ys, fd) (nI j) := by
  unfold wpX_matters
  refine xw_nfG hnf hj (br_t rfl ?_)
  refine xw_prep hnf hnc hpl hnd hr ?_
  intro rd' tr' bd' vl' mt' ys' hm hy
  exact Exists.intro (2 ^ nf + 1) (xw_matters hnf hj (K rd' tr' bd' vl' mt' ys' hm hy) (2 ^ nf) 0 (by omega) (fun s hs => by omega))
theorem yw_matB {post : Int32 → SY → Prop} {x : Int32} (h : x < 0 ∨ nI nf ≤ x) (K : post 0 (nI nf, nI nc, kn, aF, aT, aL, aN, qL, qF, qT, mk, yy)) : wpY_matters post (nI nf, nI nc, kn, aF, aT, aL, aN, qL, qF, qT, mk, yy) x := by
  unfold wpY_matters
  exact yw_nfB h (br_t rfl K)
theorem yw_matG {post : Int32 → SY → Prop} {j : Nat} (hj : j < nf) (hnf : nf ≤ 9) (hnc : nc ≤ 4) (hr : kn = 0 ∨ q_YS nf nc aF aT aL qL qF qT yy)
    (K : ∀ (kn' : Int32) (mk' yy' : Nat → Int32), q_YS nf nc aF aT aL qL qF qT yy' → post (qb_v (∃ s, s < 2 ^ nf ∧ yy' s ≠ yy' (s ^^^ 2 ^ j))) (nI nf, nI nc, kn', aF, aT, aL, aN, qL, qF, qT, mk', yy')) : wpY_matters post (nI nf, nI nc, kn, aF, aT, aL, aN, qL, qF, qT, mk, yy) (nI j) := by
  unfold wpY_matters
  refine yw_nfG hnf hj (br_f (by decide) ?_)
  refine yw_work hnf hnc hr ?_
  intro kn' mk' yy' hy
  exact Exists.intro (2 ^ nf + 1) (yw_matters hnf hj (K kn' mk' yy' hy) (2 ^ nf) 0 (by omega) (fun s hs => by omega))
theorem xw_few {post : Int32 → SX → Prop} (hnf : nf ≤ 9) (hnc : nc ≤ 4) (hpl : ∀ c, c < nc → qp_pl (qF c) ∧ qp_pl (qT c)) (hnd : ∀ i, i < nf → qp_nd (aF i) ∧ qp_nd (aT i))
    (hr : rd = 0 ∨ (q_MS nf nc aF aT aL qL qF qT mt ∧ q_YS nf nc aF aT aL qL qF qT ys))
    (K : ∀ (rd' : Int32) (tr' bd' vl' mt' ys' : Nat → Int32), q_MS nf nc aF aT aL qL qF qT mt' → q_YS nf nc aF aT aL qL qF qT ys' → ∀ x : Int32, qm_is (fun s => mt' s ≠ 0) (qm_c 9) (2 ^ nf) x → post x (nI nf, nI nc, rd', aF, aT, aL, aN, qL, qF, qT, tr', bd', vl', mt', ys', fd)) : wpX_fewest post (nI nf, nI nc, rd, aF, aT, aL, aN, qL, qF, qT, tr, bd, vl, mt, ys, fd) := by
  unfold wpX_fewest
  refine xw_prep hnf hnc hpl hnd hr ?_
  intro rd' tr' bd' vl' mt' ys' hm hy
  exact Exists.intro (2 ^ nf + 1) (xw_fewest hnf (K rd' tr' bd' vl' mt' ys' hm hy) (2 ^ nf) 0 (by omega) (-4) (Or.inl ⟨rfl, fun s hs => by omega⟩))
theorem yw_few {post : Int32 → SY → Prop} (hnf : nf ≤ 9) (hnc : nc ≤ 4) (hr : kn = 0 ∨ q_YS nf nc aF aT aL qL qF qT yy)
    (K : ∀ (kn' : Int32) (mk' yy' : Nat → Int32), q_YS nf nc aF aT aL qL qF qT yy' → ∀ x : Int32, qm_is (fun s => yy' s ≠ 0) (qm_c nf) (2 ^ nf) x → post x (nI nf, nI nc, kn', aF, aT, aL, aN, qL, qF, qT, mk', yy')) : wpY_fewest post (nI nf, nI nc, kn, aF, aT, aL, aN, qL, qF, qT, mk, yy) := by
  unfold wpY_fewest
  refine yw_work hnf hnc hr ?_
  intro kn' mk' yy' hy
  exact Exists.intro (2 ^ nf + 1) (yw_fewest hnf (K kn' mk' yy' hy) (2 ^ nf) 0 (by omega) (-4) (Or.inl ⟨rfl, fun s hs => by omega⟩))
theorem xw_rea {post : Int32 → SX → Prop} (hnf : nf ≤ 9) (hnc : nc ≤ 4) (hpl : ∀ c, c < nc → qp_pl (qF c) ∧ qp_pl (qT c)) (hnd : ∀ i, i < nf → qp_nd (aF i) ∧ qp_nd (aT i))
    (hr : rd = 0 ∨ (q_MS nf nc aF aT aL qL qF qT mt ∧ q_YS nf nc aF aT aL qL qF qT ys))
    (K : ∀ (rd' : Int32) (tr' bd' vl' mt' ys' : Nat → Int32), q_MS nf nc aF aT aL qL qF qT mt' → q_YS nf nc aF aT aL qL qF qT ys' → post (qr_c nf ys' (2 ^ nf)) (nI nf, nI nc, rd', aF, aT, aL, aN, qL, qF, qT, tr', bd', vl', mt', ys', fd)) : wpX_reasons post (nI nf, nI nc, rd, aF, aT, aL, aN, qL, qF, qT, tr, bd, vl, mt, ys, fd) := by
  unfold wpX_reasons
  refine xw_prep hnf hnc hpl hnd hr ?_
  intro rd' tr' bd' vl' mt' ys' hm hy
  exact Exists.intro (2 ^ nf + 1) (xw_reasons hnf (K rd' tr' bd' vl' mt' ys' hm hy) (2 ^ nf) 0 (by omega))
theorem yw_rea {post : Int32 → SY → Prop} (hnf : nf ≤ 9) (hnc : nc ≤ 4) (hr : kn = 0 ∨ q_YS nf nc aF aT aL qL qF qT yy)
    (K : ∀ (kn' : Int32) (mk' yy' : Nat → Int32), q_YS nf nc aF aT aL qL qF qT yy' → post (qr_c nf yy' (2 ^ nf)) (nI nf, nI nc, kn', aF, aT, aL, aN, qL, qF, qT, mk', yy')) : wpY_reasons post (nI nf, nI nc, kn, aF, aT, aL, aN, qL, qF, qT, mk, yy) := by
  unfold wpY_reasons
  refine yw_work hnf hnc hr ?_
  intro kn' mk' yy' hy
  exact Exists.intro (2 ^ nf + 1) (yw_reasons hnf (K kn' mk' yy' hy) (2 ^ nf) 0 (by omega))
end
end
section
/-! what is owed -/
/-- what the two states have in common -/
def qi_v (nf nc : Nat) (rd kn : Int32) (aF aT aL qL qF qT mt ys yy : Nat → Int32) : Prop :=
  nf ≤ 9 ∧ nc ≤ 4 ∧ (∀ c, c < nc → qp_pl (qF c) ∧ qp_pl (qT c)) ∧ (∀ i, i < nf → qp_nd (aF i) ∧ qp_nd (aT i)) ∧
  (rd = 0 ∨ (q_MS nf nc aF aT aL qL qF qT mt ∧ q_YS nf nc aF aT aL qL qF qT ys)) ∧ (kn = 0 ∨ q_YS nf nc aF aT aL qL qF qT yy)
def i_Rel (k : Nat) (u : SX) (v : SY) : Prop := ∃ (nf nc : Nat) (rd kn : Int32) (aF aT aL aN qL qF qT tr bd vl mt ys fd mk yy : Nat → Int32), u = (nI nf, nI nc, rd, aF, aT, aL, aN, qL, qF, qT, tr, bd, vl, mt, ys, fd) ∧ v = (nI nf, nI nc, kn, aF, aT, aL, aN, qL, qF, qT, mk, yy) ∧ qi_v nf nc rd kn aF aT aL qL qF qT mt ys yy
theorem qi_el {k : Nat} {u : SX} {v : SY} {P : SX → SY → Prop} (h : ∀ (nf nc : Nat) (rd kn : Int32) (aF aT aL aN qL qF qT tr bd vl mt ys fd mk yy : Nat → Int32), qi_v nf nc rd kn aF aT aL qL qF qT mt ys yy → P (nI nf, nI nc, rd, aF, aT, aL, aN, qL, qF, qT, tr, bd, vl, mt, ys, fd) (nI nf, nI nc, kn, aF, aT, aL, aN, qL, qF, qT, mk, yy)) (I : i_Rel k u v) : P u v :=
  Exists.elim I fun nf I => Exists.elim I fun nc I => Exists.elim I fun rd I => Exists.elim I fun kn I => Exists.elim I fun aF I => Exists.elim I fun aT I => Exists.elim I fun aL I => Exists.elim I fun aN I => Exists.elim I fun qL I => Exists.elim I fun qF I => Exists.elim I fun qT I => Exists.elim I fun tr I => Exists.elim I fun bd I => Exists.elim I fun vl I => Exists.elim I fun mt I => Exists.elim I fun ys I => Exists.elim I fun fd I => Exists.elim I fun mk I => Exists.elim I fun yy I => by
    rw [I.1, I.2.1]
    exact h nf nc rd kn aF aT aL aN qL qF qT tr bd vl mt ys fd mk yy I.2.2
theorem qi_mk {k nf nc : Nat} {rd kn : Int32} {aF aT aL aN qL qF qT tr bd vl mt ys fd mk yy : Nat → Int32} (h : qi_v nf nc rd kn aF aT aL qL qF qT mt ys yy) : i_Rel k (nI nf, nI nc, rd, aF, aT, aL, aN, qL, qF, qT, tr, bd, vl, mt, ys, fd) (nI nf, nI nc, kn, aF, aT, aL, aN, qL, qF, qT, mk, yy) :=
  ⟨nf, nc, rd, kn, aF, aT, aL, aN, qL, qF, qT, tr, bd, vl, mt, ys, fd, mk, yy, rfl, rfl, h⟩
theorem i_up {k : Nat} {u : SX} {v : SY} (h : i_Rel k u v) : i_Rel (k + 4) u v := h
theorem i_vc0 : wpX_init (fun u => wpY_init (fun v => i_Rel 0 u v)) := by
  unfold wpX_init wpY_init
  exact qi_mk (nf := 0) (nc := 0) ⟨by decide, by decide, fun c hc => by omega, fun i hi => by omega, Or.inl rfl, Or.inl rfl⟩
theorem i_vc_fact {k : Nat} {u : SX} {v : SY} (I : i_Rel k u v) (hk : k + 4 ≤ 2048) (v1 : Int32) (v2 : Int32) : wpX_fact (fun r u' => wpY_fact (fun r' v' => r' = r ∧ i_Rel (k + 4) u' v') v v1 v2) u v1 v2 := by
  refine qi_el (P := fun u v => wpX_fact (fun r u' => wpY_fact (fun r' v' => r' = r ∧ i_Rel (k + 4) u' v') v v1 v2) u v1 v2) ?_ I
  intro nf nc rd kn aF aT aL aN qL qF qT tr bd vl mt ys fd mk yy H
  obtain ⟨ja, hja, ea⟩ := pk_andE v1 (m := 7) 3 (by decide)
  obtain ⟨jb, hjb, eb⟩ := pk_andE (v1 >>> ((3 : Int32) &&& 31)) (m := 7) 3 (by decide)
  have hi : nf < 9 → vp_in (nI nf) 9 := fun h => vp_in_nI h (by decide)
  have cl : (nI nf).toNatClampNeg = nf := nI_clamp (by have := H.1; omega)
  by_cases hA : ja < 6
  · have xA : ¬ (6 : Int32) ≤ v1 &&& 7 := by rw [ea]; exact nI_ge (b := 6) hA (by decide)
    have yA : ¬ (5 : Int32) < v1 &&& 7 := by rw [ea]; exact nI_nlt (a := 5) (by omega) (by decide)
    by_cases hB : jb < 6
    · have xB : (v1 >>> ((3 : Int32) &&& 31)) &&& 7 < 6 := by rw [eb]; exact nI_lt (b := 6) hB (by decide)
      have yB : (v1 >>> ((3 : Int32) &&& 31)) &&& 7 ≤ 5 := by rw [eb]; exact nI_le (b := 5) (by omega) (by decide)
      by_cases h1 : v2 < 1
      · exact nm_e (nm_e (br_f xA (br_t xB (br_t h1 (br_f yA (br_t yB (br_t h1 ⟨rfl, qi_mk H⟩)))))))
      · by_cases h4 : v2 ≤ 4
        · by_cases h9 : nf < 9
          · have x9 : nI nf < 9 := nI_lt (b := 9) h9 (by decide)
            have y9 : ¬ nI nf = 9 := fun z => by
              have := (nI_eq (a := nf) (b := 9) (by omega) (by decide)).mp z
              omega
            refine nm_e (nm_e (br_f xA (br_t xB (br_f h1 (br_t h4 (br_t x9 ⟨hi h9, nm_r (e' := upd aF nf (v1 &&& 7)) (by rw [cl]) ⟨hi h9, nm_r (e' := upd aT nf ((v1 >>> ((3 : Int32) &&& 31)) &&& 7)) (by rw [cl]) ⟨hi h9, nm_r (e' := upd aL nf ((v1 >>> ((6 : Int32) &&& 31)) &&& 1)) (by rw [cl]) ⟨hi h9, nm_r (e' := upd aN nf v2) (by rw [cl]) (nm_r (nI_1 nf) ?_)⟩⟩⟩⟩))))))
            refine br_f yA (br_t yB (br_f h1 (br_t h4 (br_f y9 ⟨hi h9, nm_r (e' := upd aF nf (v1 &&& 7)) (by rw [cl]) ⟨hi h9, nm_r (e' := upd aT nf ((v1 >>> ((3 : Int32) &&& 31)) &&& 7)) (by rw [cl]) ⟨hi h9, nm_r (e' := upd aL nf ((v1 >>> ((6 : Int32) &&& 31)) &&& 1)) (by rw [cl]) ⟨hi h9, nm_r (e' := upd aN nf v2) (by rw [cl]) (nm_r (nI_1 nf) ⟨rfl, ?_⟩)⟩⟩⟩⟩))))
            obtain ⟨_, hnc, hpl, hnd, _, _⟩ := H
            refine qi_mk (nf := nf + 1) ⟨by omega, hnc, hpl, fun i hi' => ?_, Or.inl rfl, Or.inl rfl⟩
            by_cases e : i = nf
            · rw [e, pk_us, pk_us]
              exact ⟨⟨ja, ea, hA⟩, ⟨jb, eb, hB⟩⟩
            · rw [pk_un e, pk_un e]
              exact hnd i (by omega)
          · have e9 : nf = 9 := by have := H.1; omega
            have x9 : ¬ nI nf < 9 := by rw [e9]; decide
            have y9 : nI nf = 9 := by rw [e9]; rfl
            exact nm_e (nm_e (br_f xA (br_t xB (br_f h1 (br_t h4 (br_f x9 (br_f yA (br_t yB (br_f h1 (br_t h4 (br_t y9 ⟨rfl, qi_mk H⟩)))))))))))
        · exact nm_e (nm_e (br_f xA (br_t xB (br_f h1 (br_f h4 (br_f yA (br_t yB (br_f h1 (br_f h4 ⟨rfl, qi_mk H⟩)))))))))
    · have xB : ¬ (v1 >>> ((3 : Int32) &&& 31)) &&& 7 < 6 := by rw [eb]; exact nI_nlt (b := 6) (by omega) (by omega)
      have yB : ¬ (v1 >>> ((3 : Int32) &&& 31)) &&& 7 ≤ 5 := by rw [eb]; exact nI_ge (a := 5) (by omega) (by omega)
      exact nm_e (nm_e (br_f xA (br_f xB (br_f yA (br_f yB ⟨rfl, qi_mk H⟩)))))
  · have xA : (6 : Int32) ≤ v1 &&& 7 := by rw [ea]; exact nI_le (a := 6) (by omega) (by omega)
    have yA : (5 : Int32) < v1 &&& 7 := by rw [ea]; exact nI_lt (a := 5) (by omega) (by omega)
    exact nm_e (nm_e (br_t xA (br_t yA ⟨rfl, qi_mk H⟩)))
theorem i_vc_likely {k : Nat} {u : SX} {v : SY} (I : i_Rel k u v) (hk : k + 4 ≤ 2048) (v1 : Int32) (v2 : Int32) : wpX_likely (fun r u' => wpY_likely (fun r' v' => r' = r ∧ i_Rel (k + 4) u' v') v v1 v2) u v1 v2 := by
  refine qi_el (P := fun u v => wpX_likely (fun r u' => wpY_likely (fun r' v' => r' = r ∧ i_Rel (k + 4) u' v') v v1 v2) u v1 v2) ?_ I
  intro nf nc rd kn aF aT aL aN qL qF qT tr bd vl mt ys fd mk yy H
  have hnf := H.1
  rcases pk_ix v1 (n := nf) (by omega) with h | h | ⟨j, hj, rfl⟩
  · exact xw_likB (Or.inl h) (yw_likB (Or.inl h) ⟨rfl, qi_mk H⟩)
  · exact xw_likB (Or.inr h) (yw_likB (Or.inr h) ⟨rfl, qi_mk H⟩)
  · by_cases h1 : v2 < 1
    · exact xw_likN hnf hj (Or.inl h1) (yw_likN hnf hj (Or.inl h1) ⟨rfl, qi_mk H⟩)
    · by_cases h4 : v2 ≤ 4
      · exact xw_likG hnf hj h1 h4 (yw_likG hnf hj h1 h4 ⟨rfl, qi_mk H⟩)
      · exact xw_likN hnf hj (Or.inr h4) (yw_likN hnf hj (Or.inr h4) ⟨rfl, qi_mk H⟩)
theorem i_vc_condition {k : Nat} {u : SX} {v : SY} (I : i_Rel k u v) (hk : k + 4 ≤ 2048) (v1 : Int32) (v2 : Int32) (v3 : Int32) : wpX_condition (fun r u' => wpY_condition (fun r' v' => r' = r ∧ i_Rel (k + 4) u' v') v v1 v2 v3) u v1 v2 v3 := by
  refine qi_el (P := fun u v => wpX_condition (fun r u' => wpY_condition (fun r' v' => r' = r ∧ i_Rel (k + 4) u' v') v v1 v2 v3) u v1 v2 v3) ?_ I
  intro nf nc rd kn aF aT aL aN qL qF qT tr bd vl mt ys fd mk yy H
  rcases Classical.em (qp_pl v2 ∧ qp_pl v3) with z | z
  · by_cases h : nc < 4
    · refine xw_conG z.1 z.2 h (yw_conG z.1 z.2 h ⟨rfl, ?_⟩)
      obtain ⟨hnf, hnc, hpl, hnd, _, _⟩ := H
      refine qi_mk (nc := nc + 1) ⟨hnf, by omega, fun c hc => ?_, hnd, Or.inl rfl, Or.inl rfl⟩
      by_cases e : c = nc
      · rw [e, pk_us, pk_us]
        exact z
      · rw [pk_un e, pk_un e]
        exact hpl c (by omega)
    · have h4 : nc = 4 := by have := H.2.1; omega
      exact xw_conF z.1 z.2 h4 (yw_conF z.1 z.2 h4 ⟨rfl, qi_mk H⟩)
  · exact xw_conB z (yw_conB z ⟨rfl, qi_mk H⟩)
theorem i_vc_ask {k : Nat} {u : SX} {v : SY} (I : i_Rel k u v) (hk : k + 4 ≤ 2048) : wpX_ask (fun u' => wpY_ask (fun v' => i_Rel (k + 4) u' v') v) u := by
  refine qi_el (P := fun u v => wpX_ask (fun u' => wpY_ask (fun v' => i_Rel (k + 4) u' v') v) u) ?_ I
  intro nf nc rd kn aF aT aL aN qL qF qT tr bd vl mt ys fd mk yy H
  obtain ⟨hnf, hnc, hpl, hnd, _, _⟩ := H
  exact qi_mk (k := k + 4) (nc := 0) ⟨hnf, by omega, fun c hc => by omega, hnd, Or.inl rfl, Or.inl rfl⟩
theorem i_vc_drop {k : Nat} {u : SX} {v : SY} (I : i_Rel k u v) (hk : k + 4 ≤ 2048) : wpX_drop (fun r u' => wpY_drop (fun r' v' => r' = r ∧ i_Rel (k + 4) u' v') v) u := by
  refine qi_el (P := fun u v => wpX_drop (fun r u' => wpY_drop (fun r' v' => r' = r ∧ i_Rel (k + 4) u' v') v) u) ?_ I
  intro nf nc rd kn aF aT aL aN qL qF qT tr bd vl mt ys fd mk yy H
  rcases nf with _ | m
  · exact br_t rfl (br_t rfl ⟨rfl, qi_mk H⟩)
  · obtain ⟨hnf, hnc, hpl, hnd, _, _⟩ := H
    have h0 : ¬ nI (m + 1) = 0 := nI_ne0 (by omega) (by omega)
    exact br_f h0 (nm_r (nI_pred m) (br_f h0 (nm_r (nI_pred m) ⟨rfl, qi_mk (nf := m) ⟨by omega, hnc, hpl, fun i hi => hnd i (by omega), Or.inl rfl, Or.inl rfl⟩⟩)))
theorem i_vc_share {k : Nat} {u : SX} {v : SY} (I : i_Rel k u v) (hk : k + 4 ≤ 2048) : wpX_share (fun r u' => wpY_share (fun r' v' => r' = r ∧ i_Rel (k + 4) u' v') v) u := by
  refine qi_el (P := fun u v => wpX_share (fun r u' => wpY_share (fun r' v' => r' = r ∧ i_Rel (k + 4) u' v') v) u) ?_ I
  intro nf nc rd kn aF aT aL aN qL qF qT tr bd vl mt ys fd mk yy H
  obtain ⟨hnf, hnc, hpl, hnd, hr, hq⟩ := H
  refine xw_share hnf hnc hpl hnd hr (fun rd' tr' bd' vl' mt' ys' fd' hm hy => ?_)
  refine yw_share hnf hnc hq (fun kn' mk' yy' hy' => ?_)
  exact ⟨qf_same hy hy', qi_mk ⟨hnf, hnc, hpl, hnd, Or.inr ⟨hm, hy⟩, Or.inr hy'⟩⟩
theorem i_vc_all {k : Nat} {u : SX} {v : SY} (I : i_Rel k u v) (hk : k + 4 ≤ 2048) : wpX_all (fun r => wpY_all (fun r' => r' = r ∧ i_Rel (k + 4) u v) v) u := by
  refine qi_el (P := fun u v => wpX_all (fun r => wpY_all (fun r' => r' = r ∧ i_Rel (k + 4) u v) v) u) ?_ I
  intro nf nc rd kn aF aT aL aN qL qF qT tr bd vl mt ys fd mk yy H
  have hnf := H.1
  have e := qw_all nf (by omega)
  unfold wpX_all wpY_all
  exact Exists.intro (nf + 1) (yw_all hnf ⟨e.symm, qi_mk H⟩ nf 0 (by omega))
theorem i_vc_shareWith {k : Nat} {u : SX} {v : SY} (I : i_Rel k u v) (hk : k + 4 ≤ 2048) (v1 : Int32) : wpX_shareWith (fun r u' => wpY_shareWith (fun r' v' => r' = r ∧ i_Rel (k + 4) u' v') v v1) u v1 := by
  refine qi_el (P := fun u v => wpX_shareWith (fun r u' => wpY_shareWith (fun r' v' => r' = r ∧ i_Rel (k + 4) u' v') v v1) u v1) ?_ I
  intro nf nc rd kn aF aT aL aN qL qF qT tr bd vl mt ys fd mk yy H
  rcases pk_ix v1 (n := nf) (by have := H.1; omega) with h | h | ⟨j, hj, rfl⟩
  · exact xw_shwB (Or.inl h) (yw_shwB (Or.inl h) ⟨rfl, qi_mk H⟩)
  · exact xw_shwB (Or.inr h) (yw_shwB (Or.inr h) ⟨rfl, qi_mk H⟩)
  · obtain ⟨hnf, hnc, hpl, hnd, hr, hq⟩ := H
    refine xw_shwG hj hnf hnc hpl hnd hr (fun rd' tr' bd' vl' mt' ys' fd' hm hy => ?_)
    refine yw_shwG hj hnf hnc hq (fun kn' mk' yy' hy' => ?_)
    exact ⟨qf_same hy hy', qi_mk ⟨hnf, hnc, hpl, hnd, Or.inr ⟨hm, hy⟩, Or.inr hy'⟩⟩
theorem i_vc_matters {k : Nat} {u : SX} {v : SY} (I : i_Rel k u v) (hk : k + 4 ≤ 2048) (v1 : Int32) : wpX_matters (fun r u' => wpY_matters (fun r' v' => r' = r ∧ i_Rel (k + 4) u' v') v v1) u v1 := by
  refine qi_el (P := fun u v => wpX_matters (fun r u' => wpY_matters (fun r' v' => r' = r ∧ i_Rel (k + 4) u' v') v v1) u v1) ?_ I
  intro nf nc rd kn aF aT aL aN qL qF qT tr bd vl mt ys fd mk yy H
  rcases pk_ix v1 (n := nf) (by have := H.1; omega) with h | h | ⟨j, hj, rfl⟩
  · exact xw_matB (Or.inl h) (yw_matB (Or.inl h) ⟨rfl, qi_mk H⟩)
  · exact xw_matB (Or.inr h) (yw_matB (Or.inr h) ⟨rfl, qi_mk H⟩)
  · obtain ⟨hnf, hnc, hpl, hnd, hr, hq⟩ := H
    refine xw_matG hj hnf hnc hpl hnd hr (fun rd' tr' bd' vl' mt' ys' hm hy => ?_)
    refine yw_matG hj hnf hnc hq (fun kn' mk' yy' hy' => ?_)
    exact ⟨qb_iff (qx_matters hj hy hy'), qi_mk ⟨hnf, hnc, hpl, hnd, Or.inr ⟨hm, hy⟩, Or.inr hy'⟩⟩
theorem i_vc_fewest {k : Nat} {u : SX} {v : SY} (I : i_Rel k u v) (hk : k + 4 ≤ 2048) : wpX_fewest (fun r u' => wpY_fewest (fun r' v' => r' = r ∧ i_Rel (k + 4) u' v') v) u := by
  refine qi_el (P := fun u v => wpX_fewest (fun r u' => wpY_fewest (fun r' v' => r' = r ∧ i_Rel (k + 4) u' v') v) u) ?_ I
  intro nf nc rd kn aF aT aL aN qL qF qT tr bd vl mt ys fd mk yy H
  obtain ⟨hnf, hnc, hpl, hnd, hr, hq⟩ := H
  refine xw_few hnf hnc hpl hnd hr (fun rd' tr' bd' vl' mt' ys' hm hy x hx => ?_)
  refine yw_few hnf hnc hq (fun kn' mk' yy' hy' y hz => ?_)
  exact ⟨qx_fewest hnf hm hy' hx hz, qi_mk ⟨hnf, hnc, hpl, hnd, Or.inr ⟨hm, hy⟩, Or.inr hy'⟩⟩
theorem i_vc_reasons {k : Nat} {u : SX} {v : SY} (I : i_Rel k u v) (hk : k + 4 ≤ 2048) : wpX_reasons (fun r u' => wpY_reasons (fun r' v' => r' = r ∧ i_Rel (k + 4) u' v') v) u := by
  refine qi_el (P := fun u v => wpX_reasons (fun r u' => wpY_reasons (fun r' v' => r' = r ∧ i_Rel (k + 4) u' v') v) u) ?_ I
  intro nf nc rd kn aF aT aL aN qL qF qT tr bd vl mt ys fd mk yy H
  obtain ⟨hnf, hnc, hpl, hnd, hr, hq⟩ := H
  refine xw_rea hnf hnc hpl hnd hr (fun rd' tr' bd' vl' mt' ys' hm hy => ?_)
  refine yw_rea hnf hnc hq (fun kn' mk' yy' hy' => ?_)
  exact ⟨qx_reasons hy hy' _ (Nat.le_refl _), qi_mk ⟨hnf, hnc, hpl, hnd, Or.inr ⟨hm, hy⟩, Or.inr hy'⟩⟩
end
