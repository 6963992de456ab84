section
theorem pk_us {f : Nat → Int32} {k : Nat} {x : Int32} : upd f k x k = x := if_pos rfl
theorem pk_un {f : Nat → Int32} {k j : Nat} {x : Int32} (h : j ≠ k) : upd f k x j = f j := if_neg h
theorem pk_sub {a b : Nat} (h : b ≤ a) : nI a - nI b = nI (a - b) := by
  obtain ⟨c, rfl⟩ : ∃ c, a = c + b := ⟨a - b, by omega⟩
  rw [← nI_add, Int32.add_sub_cancel, Nat.add_sub_cancel]
theorem pk_m1 (n : Nat) : nI (n + 1) + (-1) = nI n := by
  rw [← nI_1, Int32.add_assoc, show (1 : Int32) + (-1) = 0 from rfl, Int32.add_zero]
theorem pk_mul (a b : Nat) : nI a * nI b = nI (a * b) := (Int32.ofNat_mul a b).symm
theorem pk_div {a d : Nat} (ha : a < 2 ^ 31) (h0 : 0 < d) (hd : d < 2 ^ 31) : nI a / nI d = nI (a / d) := by
  apply Int32.toInt_inj.mp
  rw [lg_idiv_nonneg (by rw [nI_toInt ha]; omega) (by rw [nI_toInt hd]; omega), nI_toInt ha, nI_toInt hd, nI_toInt (Nat.lt_of_le_of_lt (Nat.div_le_self a d) ha)]
  first | rfl | exact (Int.natCast_ediv _ _).symm
theorem pk_rem {a d : Nat} (ha : a < 2 ^ 31) (h0 : 0 < d) (hd : d < 2 ^ 31) : nI a - nI a / nI d * nI d = nI (a % d) := by
  rw [pk_div ha h0 hd, pk_mul, pk_sub (Nat.div_mul_le_self a d)]
  exact congrArg nI (by have := Nat.div_add_mod' a d; omega)
theorem pk_sub_toInt {a b : Nat} (ha : a < 2 ^ 30) (hb : b < 2 ^ 30) : (nI a - nI b).toInt = (a : Int) - b := by
  rw [Int32.toInt_sub, nI_toInt (by omega), nI_toInt (by omega)]
  exact Int.bmod_eq_of_le (by omega) (by omega)
theorem pk_sneg {a b : Nat} (hb : b < 2 ^ 30) (h : a < b) : nI a - nI b < 0 := by
  rw [Int32.lt_iff_toInt_lt, pk_sub_toInt (by omega) hb, show (0 : Int32).toInt = 0 from by decide]
  omega
theorem pk_ix (x : Int32) {n : Nat} (hn : n < 2 ^ 31) : x < 0 ∨ nI n ≤ x ∨ ∃ j : Nat, j < n ∧ x = nI j := by
  by_cases h : x < 0
  · exact Or.inl h
  · obtain ⟨j, hj, rfl⟩ := nI_of h
    by_cases h2 : j < n
    · exact Or.inr (Or.inr ⟨j, h2, rfl⟩)
    · exact Or.inr (Or.inl (nI_le (by omega) hj))
theorem pk_le {x y : Int32} {A B : Prop} (a b : Nat) (f : a ≤ b → A) (g : b < a → B) (hx : x = nI a := by rfl) (hy : y = nI b := by rfl) (ha : a < 2 ^ 31 := by omega) (hb : b < 2 ^ 31 := by omega) : (x ≤ y → A) ∧ (¬ x ≤ y → B) := by
  subst hx hy
  rw [nI_leI ha hb]
  exact ⟨f, fun z => g (by omega)⟩
theorem pk_lt {x y : Int32} {A B : Prop} (a b : Nat) (f : a < b → A) (g : b ≤ a → B) (hx : x = nI a := by rfl) (hy : y = nI b := by rfl) (ha : a < 2 ^ 31 := by omega) (hb : b < 2 ^ 31 := by omega) : (x < y → A) ∧ (¬ x < y → B) := by
  subst hx hy
  rw [nI_ltI ha hb]
  exact ⟨f, fun z => g (by omega)⟩
theorem pk_eq {x y : Int32} {A B : Prop} (a b : Nat) (f : a = b → A) (g : a ≠ b → B) (hx : x = nI a := by rfl) (hy : y = nI b := by rfl) (ha : a < 2 ^ 31 := by omega) (hb : b < 2 ^ 31 := by omega) : (x = y → A) ∧ (¬ x = y → B) := by
  subst hx hy
  rw [nI_eq ha hb]
  exact ⟨f, g⟩
theorem pk_in {x : Int32} (n N : Nat) (h : n < N) (hx : x = nI n := by rfl) (hN : N < 2 ^ 31 := by omega) : vp_in x N := by
  subst hx
  exact vp_in_nI h hN
theorem pk_cl {x : Int32} (n : Nat) (hx : x = nI n := by rfl) (h : n < 2 ^ 31 := by omega) : x.toNatClampNeg = n := by
  subst hx
  exact nI_clamp h
theorem pk_tn {n : Nat} (h : n < 2 ^ 32) : (nI n).toBitVec.toNat = n := Nat.mod_eq_of_lt h
theorem pk_and (x : Int32) {m : Int32} (k : Nat) (hm : m.toBitVec.toNat = 2 ^ k - 1) : x &&& m = nI (x.toBitVec.toNat % 2 ^ k) := by
  apply Int32.toBitVec_inj.mp
  apply BitVec.eq_of_toNat_eq
  rw [Int32.toBitVec_and, BitVec.toNat_and, hm, Nat.and_two_pow_sub_one_eq_mod]
  show _ = (BitVec.ofNat 32 _).toNat
  rw [BitVec.toNat_ofNat]
  exact (Nat.mod_eq_of_lt (Nat.lt_of_le_of_lt (Nat.mod_le _ _) x.toBitVec.isLt)).symm
theorem pk_andN {n : Nat} (h : n < 2 ^ 32) {m : Int32} (k : Nat) (hm : m.toBitVec.toNat = 2 ^ k - 1) : nI n &&& m = nI (n % 2 ^ k) := by
  rw [pk_and _ k hm, pk_tn h]
theorem pk_andE (x : Int32) {m : Int32} (k : Nat) (hm : m.toBitVec.toNat = 2 ^ k - 1) : ∃ j : Nat, j < 2 ^ k ∧ x &&& m = nI j := ⟨_, Nat.mod_lt _ (Nat.two_pow_pos k), pk_and x k hm⟩
theorem pk_andIn (x : Int32) {m : Int32} (k : Nat) (hm : m.toBitVec.toNat = 2 ^ k - 1) (hk : k ≤ 30) : vp_in (x &&& m) (2 ^ k) := by
  obtain ⟨j, hj, e⟩ := pk_andE x k hm
  rw [e]
  exact vp_in_nI hj (Nat.lt_of_le_of_lt (Nat.pow_le_pow_right (by decide) hk) (by decide))
theorem pk_shl (a s : Int32) (k : Nat) (hs : (s.toBitVec.smod 32).toNat = k) : (a <<< s).toBitVec.toNat = a.toBitVec.toNat * 2 ^ k % 2 ^ 32 := by
  show (a.toBitVec <<< (s.toBitVec.smod 32).toNat).toNat = _
  rw [hs, BitVec.toNat_shiftLeft, Nat.shiftLeft_eq]
theorem pk_shlN {n : Nat} (s : Int32) (k : Nat) (hs : (s.toBitVec.smod 32).toNat = k) (h : n * 2 ^ k < 2 ^ 32) : nI n <<< s = nI (n * 2 ^ k) := by
  apply Int32.toBitVec_inj.mp
  apply BitVec.eq_of_toNat_eq
  have hn : n < 2 ^ 32 := Nat.lt_of_le_of_lt (Nat.le_mul_of_pos_right n (Nat.two_pow_pos k)) h
  rw [pk_shl _ _ k hs, pk_tn hn, pk_tn h, Nat.mod_eq_of_lt h]
theorem pk_shr (a s : Int32) (k : Nat) (hs : (s.toBitVec.smod 32).toNat = k) : (a >>> s).toInt = a.toInt >>> k := by
  show (a.toBitVec.sshiftRight (s.toBitVec.smod 32).toNat).toInt = _
  rw [hs, BitVec.toInt_sshiftRight]
  rfl
theorem pk_shrN {n : Nat} (h : n < 2 ^ 31) (s : Int32) (k : Nat) (hs : (s.toBitVec.smod 32).toNat = k) : nI n >>> s = nI (n / 2 ^ k) := by
  apply Int32.toInt_inj.mp
  have h2 : n / 2 ^ k ≤ n := Nat.div_le_self _ _
  rw [pk_shr _ _ k hs, nI_toInt h, nI_toInt (by omega), Int.shiftRight_eq_div_pow]
  rfl
theorem pk_lT {n : Nat} (h : n < 2 ^ 63) : (lN n).toInt = (n : Int) := lg_ofNat_toInt h
theorem pk_lLT {a b : Nat} (ha : a < 2 ^ 63) (hb : b < 2 ^ 63) : lN a < lN b ↔ a < b := by
  rw [Int64.lt_iff_toInt_lt, pk_lT ha, pk_lT hb]; omega
theorem pk_lLE {a b : Nat} (ha : a < 2 ^ 63) (hb : b < 2 ^ 63) : lN a ≤ lN b ↔ a ≤ b := by
  rw [Int64.le_iff_toInt_le, pk_lT ha, pk_lT hb]; omega
theorem pk_lEQ {a b : Nat} (ha : a < 2 ^ 63) (hb : b < 2 ^ 63) : lN a = lN b ↔ a = b := by
  rw [← Int64.toInt_inj, pk_lT ha, pk_lT hb]; omega
theorem pk_lOf {x : Int64} (h : ¬ x < 0) : ∃ k : Nat, k < 2 ^ 63 ∧ x = lN k := by
  rw [Int64.lt_iff_toInt_lt] at h
  have h0 : (0 : Int64).toInt = 0 := by decide
  have hx := Int64.toInt_lt x
  refine ⟨x.toInt.toNat, by omega, Int64.toInt_inj.mp ?_⟩
  rw [pk_lT (by omega)]
  omega
theorem pk_lDiv {a b : Nat} (ha : a < 2 ^ 63) (h0 : 0 < b) (hb : b < 2 ^ 63) : lN a / lN b = lN (a / b) := by
  apply Int64.toInt_inj.mp
  rw [lg_ldiv_nonneg (by rw [pk_lT ha]; omega) (by rw [pk_lT hb]; omega), pk_lT ha, pk_lT hb, pk_lT (Nat.lt_of_le_of_lt (Nat.div_le_self a b) ha)]
  rfl
theorem pk_lRem {a b : Nat} (ha : a < 2 ^ 63) (h0 : 0 < b) (hb : b < 2 ^ 63) : lN a - lN a / lN b * lN b = lN (a % b) := by
  rw [pk_lDiv ha h0 hb, lN_mul, lN_sub (Nat.div_mul_le_self a b)]
  exact congrArg lN (by have := Nat.div_add_mod' a b; omega)
theorem s_l : ∀ n, n < 32 → ((nI n &&& 31).toBitVec.smod 32).toNat = n := by decide +kernel
theorem nx_and (a b : Nat) : nI a &&& nI b = nI (a &&& b) := by
  apply Int32.toBitVec_inj.1
  show BitVec.ofNat 32 a &&& BitVec.ofNat 32 b = BitVec.ofNat 32 (a &&& b)
  apply BitVec.eq_of_getLsbD_eq
  intro i hi
  simp [hi]
theorem nx_or (a b : Nat) : nI a ||| nI b = nI (a ||| b) := by
  apply Int32.toBitVec_inj.1
  show BitVec.ofNat 32 a ||| BitVec.ofNat 32 b = BitVec.ofNat 32 (a ||| b)
  apply BitVec.eq_of_getLsbD_eq
  intro i hi
  simp [hi]
end
section
/-- no R-chain of t is longer than k -/
def kn_Good (R : Nat → Nat → Prop) (k : Nat) (t : List Nat) : Prop :=
  ∀ s : List Nat, s.Sublist t → s.Pairwise R → s.length ≤ k
/-- in every context: a good part of w's word is met by a good part, as long, of w''s word -/
def kn_To (R : Nat → Nat → Prop) (w w' : List Nat) : Prop :=
  ∀ (u v : List Nat) (k : Nat) (t : List Nat), t.Sublist (u ++ (w ++ v)) → kn_Good R k t →
    ∃ t' : List Nat, t'.Sublist (u ++ (w' ++ v)) ∧ kn_Good R k t' ∧ t'.length = t.length
theorem kn_To_rfl (R : Nat → Nat → Prop) (w : List Nat) : kn_To R w w := fun _ _ _ t h g => ⟨t, h, g, rfl⟩
theorem kn_To_tr {R : Nat → Nat → Prop} {w1 w2 w3 : List Nat} (h : kn_To R w1 w2) (h' : kn_To R w2 w3) : kn_To R w1 w3 := by
  intro u v k t ht g
  obtain ⟨t1, a1, g1, e1⟩ := h u v k t ht g
  obtain ⟨t2, a2, g2, e2⟩ := h' u v k t1 a1 g1
  exact ⟨t2, a2, g2, e2.trans e1⟩
theorem kn_To_ctx {R : Nat → Nat → Prop} {w w' : List Nat} (h : kn_To R w w') (a b : List Nat) : kn_To R (a ++ (w ++ b)) (a ++ (w' ++ b)) := by
  intro u v k t ht g
  have e : ∀ c : List Nat, u ++ (a ++ (c ++ b) ++ v) = (u ++ a) ++ (c ++ (b ++ v)) := by
    intro c
    simp only [List.append_assoc]
  rw [e] at ht
  obtain ⟨t', h1, h2, h3⟩ := h (u ++ a) (b ++ v) k t ht g
  exact ⟨t', by rw [e]; exact h1, h2, h3⟩
theorem kn_dec {s p c q : List Nat} (h : s.Sublist (p ++ (c ++ q))) : ∃ s1 s2 s3 : List Nat, s = s1 ++ (s2 ++ s3) ∧ s1.Sublist p ∧ s2.Sublist c ∧ s3.Sublist q := by
  obtain ⟨s1, s', rfl, h1, h'⟩ := List.sublist_append_iff.mp h
  obtain ⟨s2, s3, rfl, h2, h3⟩ := List.sublist_append_iff.mp h'
  exact ⟨s1, s2, s3, rfl, h1, h2, h3⟩
theorem kn_s1 {s : List Nat} {a : Nat} (h : s.Sublist [a]) : s = [] ∨ s = [a] := by
  rcases List.sublist_cons_iff.mp h with h | ⟨r, rfl, h'⟩
  · exact Or.inl (List.sublist_nil.mp h)
  · exact Or.inr (by rw [List.sublist_nil.mp h'])
theorem kn_s2 {s : List Nat} {a b : Nat} (h : s.Sublist [a, b]) : s = [] ∨ s = [a] ∨ s = [b] ∨ s = [a, b] := by
  rcases List.sublist_cons_iff.mp h with h | ⟨r, rfl, h'⟩
  · rcases kn_s1 h with rfl | rfl
    · exact Or.inl rfl
    · exact Or.inr (Or.inr (Or.inl rfl))
  · rcases kn_s1 h' with rfl | rfl
    · exact Or.inr (Or.inl rfl)
    · exact Or.inr (Or.inr (Or.inr rfl))
theorem kn_s3 {s : List Nat} {a b c : Nat} (h : s.Sublist [a, b, c]) : s = [] ∨ s = [a] ∨ s = [b] ∨ s = [c] ∨ s = [a, b] ∨ s = [a, c] ∨ s = [b, c] ∨ s = [a, b, c] := by
  rcases List.sublist_cons_iff.mp h with h | ⟨r, rfl, h'⟩
  · rcases kn_s2 h with rfl | rfl | rfl | rfl
    · exact Or.inl rfl
    · exact Or.inr (Or.inr (Or.inl rfl))
    · exact Or.inr (Or.inr (Or.inr (Or.inl rfl)))
    · exact Or.inr (Or.inr (Or.inr (Or.inr (Or.inr (Or.inr (Or.inl rfl))))))
  · rcases kn_s2 h' with rfl | rfl | rfl | rfl
    · exact Or.inr (Or.inl rfl)
    · exact Or.inr (Or.inr (Or.inr (Or.inr (Or.inl rfl))))
    · exact Or.inr (Or.inr (Or.inr (Or.inr (Or.inr (Or.inl rfl)))))
    · exact Or.inr (Or.inr (Or.inr (Or.inr (Or.inr (Or.inr (Or.inr rfl))))))
theorem kn_mid {R : Nat → Nat → Prop} {s1 m s3 : List Nat} : List.Pairwise R (s1 ++ (m ++ s3)) ↔ s1.Pairwise R ∧ m.Pairwise R ∧ s3.Pairwise R ∧ (∀ a ∈ s1, ∀ b ∈ m, R a b) ∧ (∀ a ∈ m, ∀ b ∈ s3, R a b) ∧ (∀ a ∈ s1, ∀ b ∈ s3, R a b) := by
  rw [List.pairwise_append, List.pairwise_append]
  constructor
  · rintro ⟨h1, ⟨h2, h3, h4⟩, h5⟩
    exact ⟨h1, h2, h3, fun a ha b hb => h5 a ha b (List.mem_append_left _ hb), h4, fun a ha b hb => h5 a ha b (List.mem_append_right _ hb)⟩
  · rintro ⟨h1, h2, h3, h4, h5, h6⟩
    refine ⟨h1, ⟨h2, h3, h5⟩, fun a ha b hb => ?_⟩
    rcases List.mem_append.mp hb with h | h
    · exact h4 a ha b h
    · exact h6 a ha b h
theorem kn_g {R : Nat → Nat → Prop} {k : Nat} {p q c c' : List Nat} (g : kn_Good R k (p ++ (c ++ q))) (H : ∀ s : List Nat, s.Sublist c' → s.Pairwise R → s.Sublist c) : kn_Good R k (p ++ (c' ++ q)) := by
  intro s hs hp
  obtain ⟨s1, s2, s3, rfl, h1, h2, h3⟩ := kn_dec hs
  exact g _ (h1.append ((H s2 h2 (kn_mid.mp hp).2.1).append h3)) hp
section
variable {R : Nat → Nat → Prop} {x y z : Nat}
theorem kn_hd (hT : ∀ a b c, R a b → R b c → R a c) (hzy : R z y) (hyx : R y x) {k : Nat} {p q a b : List Nat} (g : kn_Good R k (p ++ ([x, z] ++ q))) (n : ¬ kn_Good R k (p ++ ([z, x] ++ q))) (ha : a.Sublist p) (hb : b.Sublist q) (h : List.Pairwise R (a ++ ([y] ++ b))) : a.length + b.length + 1 ≤ k := by
  have hex : ∃ s : List Nat, s.Sublist (p ++ ([z, x] ++ q)) ∧ s.Pairwise R ∧ k < s.length := by
    apply Classical.byContradiction
    intro hn
    apply n
    intro s hs hps
    apply Classical.byContradiction
    intro hl
    exact hn ⟨s, hs, hps, by omega⟩
  obtain ⟨s, hs, hps, hl⟩ := hex
  obtain ⟨s1, m, s3, rfl, h1, hm, h3⟩ := kn_dec hs
  have hmm : m = [z, x] := by
    rcases kn_s2 hm with rfl | rfl | rfl | rfl
    · have := g _ (h1.append ((List.nil_sublist _).append h3)) hps
      omega
    · have := g _ (h1.append ((by simp : [z].Sublist [x, z]).append h3)) hps
      omega
    · have := g _ (h1.append ((by simp : [x].Sublist [x, z]).append h3)) hps
      omega
    · rfl
  subst hmm
  obtain ⟨p1, p2, p3, p4, p5, p6⟩ := kn_mid.mp hps
  obtain ⟨q1, q2, q3, q4, q5, q6⟩ := kn_mid.mp h
  have ax : ∀ c ∈ a, R c x := fun c hc => hT c y x (q4 c hc y (by simp)) hyx
  have zb : ∀ d ∈ b, R z d := fun d hd => hT z y d hzy (q5 y (by simp) d hd)
  have A := g (a ++ ([x] ++ s3)) (ha.append ((by simp : [x].Sublist [x, z]).append h3)) (kn_mid.mpr ⟨q1, by simp, p3, fun c hc d hd => by
      rw [List.mem_singleton.mp hd]; exact ax c hc, fun c hc d hd => by
      rw [List.mem_singleton.mp hc]; exact p5 x (by simp) d hd, fun c hc d hd => hT c x d (ax c hc) (p5 x (by simp) d hd)⟩)
  have B := g (s1 ++ ([z] ++ b)) (h1.append ((by simp : [z].Sublist [x, z]).append hb)) (kn_mid.mpr ⟨p1, by simp, q3, fun c hc d hd => by
      rw [List.mem_singleton.mp hd]; exact p4 c hc z (by simp), fun c hc d hd => by
      rw [List.mem_singleton.mp hc]; exact zb d hd, fun c hc d hd => hT c z d (p4 c hc z (by simp)) (zb d hd)⟩)
  simp only [List.length_append, List.length_cons, List.length_nil] at A B hl
  omega
theorem kn_np (hA : ∀ a b, R a b → ¬ R b a) {a b : Nat} {P : Prop} (h : R b a) (hp : List.Pairwise R [a, b]) : P := by
  have h' : R a b := by simpa using hp
  exact absurd h (hA a b h')
theorem kn_1a (hT : ∀ a b c, R a b → R b c → R a c) (hA : ∀ a b, R a b → ¬ R b a) (hzy : R z y) (hyx : R y x) : kn_To R [x, z, y] [z, x, y] := by
  intro u v k t ht g
  obtain ⟨p, c, q, rfl, hp, hc, hq⟩ := kn_dec ht
  have hzx : R z x := hT z y x hzy hyx
  have put : ∀ c' : List Nat, c'.Sublist [z, x, y] → kn_Good R k (p ++ (c' ++ q)) → c'.length = c.length → ∃ t' : List Nat, t'.Sublist (u ++ ([z, x, y] ++ v)) ∧ kn_Good R k t' ∧ t'.length = (p ++ (c ++ q)).length := fun c' h1 h2 h3 => ⟨p ++ (c' ++ q), hp.append (h1.append hq), h2, by simp [h3]⟩
  rcases kn_s3 hc with rfl | rfl | rfl | rfl | rfl | rfl | rfl | rfl
  · exact put [] (List.nil_sublist _) g rfl
  · exact put [x] (by simp) g rfl
  · exact put [z] (by simp) g rfl
  · exact put [y] (by simp) g rfl
  · by_cases hg : kn_Good R k (p ++ ([z, x] ++ q))
    · exact put [z, x] (by simp) hg rfl
    · refine put [x, y] (List.sublist_cons_self z [x, y]) ?_ rfl
      intro s hs hps
      obtain ⟨s1, m, s3, rfl, h1, hm, h3⟩ := kn_dec hs
      rcases kn_s2 hm with rfl | rfl | rfl | rfl
      · exact g _ (h1.append ((List.nil_sublist _).append h3)) hps
      · exact g _ (h1.append ((by simp : [x].Sublist [x, z]).append h3)) hps
      · have := kn_hd hT hzy hyx g hg h1 h3 hps
        simp only [List.length_append, List.length_cons, List.length_nil]
        omega
      · exact kn_np hA hyx (kn_mid.mp hps).2.1
  · exact put [x, y] (List.sublist_cons_self z [x, y]) g rfl
  · exact put [z, y] (by simp) g rfl
  · refine put [z, x, y] (List.Sublist.refl _) ?_ rfl
    intro s hs hps
    obtain ⟨s1, m, s3, rfl, h1, hm, h3⟩ := kn_dec hs
    rcases kn_s3 hm with rfl | rfl | rfl | rfl | rfl | rfl | rfl | rfl
    · exact g _ (h1.append ((List.nil_sublist _).append h3)) hps
    · exact g _ (h1.append ((by simp : [z].Sublist [x, z, y]).append h3)) hps
    · exact g _ (h1.append ((by simp : [x].Sublist [x, z, y]).append h3)) hps
    · exact g _ (h1.append ((by simp : [y].Sublist [x, z, y]).append h3)) hps
    · obtain ⟨p1, p2, p3, p4, p5, p6⟩ := kn_mid.mp hps
      have zy : ([z, y] : List Nat).Pairwise R := by simpa using hzy
      have := g (s1 ++ ([z, y] ++ s3)) (h1.append ((List.sublist_cons_self x [z, y]).append h3)) (kn_mid.mpr ⟨p1, zy, p3, fun c' hc' d hd => by
          rcases List.mem_cons.mp hd with e | hd
          · rw [e]
            exact p4 c' hc' _ (by simp)
          · rw [List.mem_singleton.mp hd]
            exact hT c' z y (p4 c' hc' z (by simp)) hzy, fun c' hc' d hd => by
          rcases List.mem_cons.mp hc' with e | hc'
          · rw [e]
            exact p5 _ (by simp) d hd
          · rw [List.mem_singleton.mp hc']
            exact hT y x d hyx (p5 x (by simp) d hd), p6⟩)
      simpa using this
    · exact g _ (h1.append ((List.sublist_cons_self x [z, y]).append h3)) hps
    · exact kn_np hA hyx (kn_mid.mp hps).2.1
    · have : ([x, y] : List Nat).Pairwise R := (kn_mid.mp hps).2.1.sublist (List.sublist_cons_self z [x, y])
      exact kn_np hA hyx this
theorem kn_2a (hT : ∀ a b c, R a b → R b c → R a c) (hA : ∀ a b, R a b → ¬ R b a) (hzy : R z y) (hyx : R y x) : kn_To R [y, x, z] [y, z, x] := by
  intro u v k t ht g
  obtain ⟨p, c, q, rfl, hp, hc, hq⟩ := kn_dec ht
  have hzx : R z x := hT z y x hzy hyx
  have put : ∀ c' : List Nat, c'.Sublist [y, z, x] → kn_Good R k (p ++ (c' ++ q)) → c'.length = c.length → ∃ t' : List Nat, t'.Sublist (u ++ ([y, z, x] ++ v)) ∧ kn_Good R k t' ∧ t'.length = (p ++ (c ++ q)).length := fun c' h1 h2 h3 => ⟨p ++ (c' ++ q), hp.append (h1.append hq), h2, by simp [h3]⟩
  rcases kn_s3 hc with rfl | rfl | rfl | rfl | rfl | rfl | rfl | rfl
  · exact put [] (List.nil_sublist _) g rfl
  · exact put [y] (by simp) g rfl
  · exact put [x] (by simp) g rfl
  · exact put [z] (by simp) g rfl
  · exact put [y, x] (by simp) g rfl
  · exact put [y, z] (by simp) g rfl
  · by_cases hg : kn_Good R k (p ++ ([z, x] ++ q))
    · exact put [z, x] (List.sublist_cons_self y [z, x]) hg rfl
    · refine put [y, z] (by simp) ?_ rfl
      intro s hs hps
      obtain ⟨s1, m, s3, rfl, h1, hm, h3⟩ := kn_dec hs
      rcases kn_s2 hm with rfl | rfl | rfl | rfl
      · exact g _ (h1.append ((List.nil_sublist _).append h3)) hps
      · have := kn_hd hT hzy hyx g hg h1 h3 hps
        simp only [List.length_append, List.length_cons, List.length_nil]
        omega
      · exact g _ (h1.append ((by simp : [z].Sublist [x, z]).append h3)) hps
      · exact kn_np hA hzy (kn_mid.mp hps).2.1
  · refine put [y, z, x] (List.Sublist.refl _) ?_ rfl
    intro s hs hps
    obtain ⟨s1, m, s3, rfl, h1, hm, h3⟩ := kn_dec hs
    rcases kn_s3 hm with rfl | rfl | rfl | rfl | rfl | rfl | rfl | rfl
    · exact g _ (h1.append ((List.nil_sublist _).append h3)) hps
    · exact g _ (h1.append ((by simp : [y].Sublist [y, x, z]).append h3)) hps
    · exact g _ (h1.append ((by simp : [z].Sublist [y, x, z]).append h3)) hps
    · exact g _ (h1.append ((by simp : [x].Sublist [y, x, z]).append h3)) hps
    · exact kn_np hA hzy (kn_mid.mp hps).2.1
    · exact g _ (h1.append ((by simp : [y, x].Sublist [y, x, z]).append h3)) hps
    · obtain ⟨p1, p2, p3, p4, p5, p6⟩ := kn_mid.mp hps
      have yx : ([y, x] : List Nat).Pairwise R := by simpa using hyx
      have := g (s1 ++ ([y, x] ++ s3)) (h1.append ((by simp : [y, x].Sublist [y, x, z]).append h3)) (kn_mid.mpr ⟨p1, yx, p3, fun c' hc' d hd => by
          rcases List.mem_cons.mp hd with e | hd
          · rw [e]
            exact hT c' z _ (p4 c' hc' z (by simp)) hzy
          · exact p4 c' hc' d (by simp [List.mem_singleton.mp hd]), fun c' hc' d hd => by
          rcases List.mem_cons.mp hc' with e | hc'
          · rw [e]
            exact hT _ x d hyx (p5 x (by simp) d hd)
          · exact p5 c' (by simp [List.mem_singleton.mp hc']) d hd, p6⟩)
      simpa using this
    · have : ([y, z] : List Nat).Pairwise R := (kn_mid.mp hps).2.1.sublist (by simp)
      exact kn_np hA hzy this
theorem kn_1b (hA : ∀ a b, R a b → ¬ R b a) (hzx : R z x) : kn_To R [z, x, y] [x, z, y] := by
  intro u v k t ht g
  obtain ⟨p, c, q, rfl, hp, hc, hq⟩ := kn_dec ht
  have put : ∀ c' : List Nat, c'.Sublist [x, z, y] → kn_Good R k (p ++ (c' ++ q)) → c'.length = c.length → ∃ t' : List Nat, t'.Sublist (u ++ ([x, z, y] ++ v)) ∧ kn_Good R k t' ∧ t'.length = (p ++ (c ++ q)).length := fun c' h1 h2 h3 => ⟨p ++ (c' ++ q), hp.append (h1.append hq), h2, by simp [h3]⟩
  rcases kn_s3 hc with rfl | rfl | rfl | rfl | rfl | rfl | rfl | rfl
  · exact put [] (List.nil_sublist _) g rfl
  · exact put [z] (by simp) g rfl
  · exact put [x] (by simp) g rfl
  · exact put [y] (by simp) g rfl
  · refine put [x, z] (by simp) (kn_g g ?_) rfl
    intro s hs hps
    rcases kn_s2 hs with rfl | rfl | rfl | rfl
    · exact List.nil_sublist _
    · simp
    · simp
    · exact kn_np hA hzx hps
  · exact put [z, y] (List.sublist_cons_self x [z, y]) g rfl
  · exact put [x, y] (by simp) g rfl
  · refine put [x, z, y] (List.Sublist.refl _) (kn_g g ?_) rfl
    intro s hs hps
    rcases kn_s3 hs with rfl | rfl | rfl | rfl | rfl | rfl | rfl | rfl
    · exact List.nil_sublist _
    · simp
    · simp
    · simp
    · exact kn_np hA hzx hps
    · exact List.sublist_cons_self z [x, y]
    · simp
    · exact kn_np hA hzx (hps.sublist (by simp))
theorem kn_2b (hA : ∀ a b, R a b → ¬ R b a) (hzx : R z x) : kn_To R [y, z, x] [y, x, z] := by
  intro u v k t ht g
  obtain ⟨p, c, q, rfl, hp, hc, hq⟩ := kn_dec ht
  have put : ∀ c' : List Nat, c'.Sublist [y, x, z] → kn_Good R k (p ++ (c' ++ q)) → c'.length = c.length → ∃ t' : List Nat, t'.Sublist (u ++ ([y, x, z] ++ v)) ∧ kn_Good R k t' ∧ t'.length = (p ++ (c ++ q)).length := fun c' h1 h2 h3 => ⟨p ++ (c' ++ q), hp.append (h1.append hq), h2, by simp [h3]⟩
  rcases kn_s3 hc with rfl | rfl | rfl | rfl | rfl | rfl | rfl | rfl
  · exact put [] (List.nil_sublist _) g rfl
  · exact put [y] (by simp) g rfl
  · exact put [z] (by simp) g rfl
  · exact put [x] (by simp) g rfl
  · exact put [y, z] (by simp) g rfl
  · exact put [y, x] (by simp) g rfl
  · refine put [x, z] (List.sublist_cons_self y [x, z]) (kn_g g ?_) rfl
    intro s hs hps
    rcases kn_s2 hs with rfl | rfl | rfl | rfl
    · exact List.nil_sublist _
    · simp
    · simp
    · exact kn_np hA hzx hps
  · refine put [y, x, z] (List.Sublist.refl _) (kn_g g ?_) rfl
    intro s hs hps
    rcases kn_s3 hs with rfl | rfl | rfl | rfl | rfl | rfl | rfl | rfl
    · exact List.nil_sublist _
    · simp
    · simp
    · simp
    · simp
    · simp
    · exact kn_np hA hzx hps
    · exact kn_np hA hzx (hps.sublist (List.sublist_cons_self y [x, z]))
end
/-- the letters below b, in order -/
def kn_lo (b : Nat) (w : List Nat) : List Nat := w.filter (fun a => decide (a < b))
/-- same letters, and for every bound b the parts below b are alike for k-rises and k-falls -/
def kn_Eq (w w' : List Nat) : Prop :=
  w.Perm w' ∧ ∀ b : Nat, kn_To (· > ·) (kn_lo b w) (kn_lo b w') ∧ kn_To (· > ·) (kn_lo b w') (kn_lo b w) ∧ kn_To (· < ·) (kn_lo b w) (kn_lo b w') ∧ kn_To (· < ·) (kn_lo b w') (kn_lo b w)
theorem kn_rfl (w : List Nat) : kn_Eq w w := ⟨List.Perm.refl _, fun _ => ⟨kn_To_rfl _ _, kn_To_rfl _ _, kn_To_rfl _ _, kn_To_rfl _ _⟩⟩
theorem kn_of_eq {w w' : List Nat} (h : w = w') : kn_Eq w w' := h ▸ kn_rfl w
theorem kn_tr {w1 w2 w3 : List Nat} (h : kn_Eq w1 w2) (h' : kn_Eq w2 w3) : kn_Eq w1 w3 :=
  ⟨h.1.trans h'.1, fun b => ⟨kn_To_tr (h.2 b).1 (h'.2 b).1, kn_To_tr (h'.2 b).2.1 (h.2 b).2.1, kn_To_tr (h.2 b).2.2.1 (h'.2 b).2.2.1, kn_To_tr (h'.2 b).2.2.2 (h.2 b).2.2.2⟩⟩
theorem kn_lo_app (b : Nat) (w w' : List Nat) : kn_lo b (w ++ w') = kn_lo b w ++ kn_lo b w' := List.filter_append ..
theorem kn_ctx {w w' : List Nat} (h : kn_Eq w w') (p q : List Nat) : kn_Eq (p ++ (w ++ q)) (p ++ (w' ++ q)) := by
  refine ⟨(h.1.append_right q).append_left p, fun b => ?_⟩
  simp only [kn_lo_app]
  exact ⟨kn_To_ctx (h.2 b).1 _ _, kn_To_ctx (h.2 b).2.1 _ _, kn_To_ctx (h.2 b).2.2.1 _ _, kn_To_ctx (h.2 b).2.2.2 _ _⟩
theorem kn_l {w w' : List Nat} (h : kn_Eq w w') (p : List Nat) : kn_Eq (p ++ w) (p ++ w') := by
  have := kn_ctx h p []
  simpa only [List.append_nil] using this
theorem kn_r {w w' : List Nat} (h : kn_Eq w w') (q : List Nat) : kn_Eq (w ++ q) (w' ++ q) := kn_ctx h [] q
theorem kn_gtT : ∀ a b c : Nat, a > b → b > c → a > c := fun _ _ _ h h' => by omega
theorem kn_gtA : ∀ a b : Nat, a > b → ¬ b > a := fun _ _ h => by omega
theorem kn_ltT : ∀ a b c : Nat, a < b → b < c → a < c := fun _ _ _ h h' => by omega
theorem kn_ltA : ∀ a b : Nat, a < b → ¬ b < a := fun _ _ h => by omega
theorem kn_E1 {x y z : Nat} (hx : x < y) (hz : y < z) : kn_Eq [x, z, y] [z, x, y] := by
  refine ⟨List.Perm.swap z x [y], fun b => ?_⟩
  by_cases h : z < b
  · have e1 : kn_lo b [x, z, y] = [x, z, y] := by
      have h1 : x < b := by omega
      have h2 : y < b := by omega
      simp [kn_lo, List.filter_cons, h, h1, h2]
    have e2 : kn_lo b [z, x, y] = [z, x, y] := by
      have h1 : x < b := by omega
      have h2 : y < b := by omega
      simp [kn_lo, List.filter_cons, h, h1, h2]
    rw [e1, e2]
    have hxz : x < z := by omega
    exact ⟨kn_1a kn_gtT kn_gtA hz hx, kn_1b kn_gtA hxz, kn_1b kn_ltA hxz, kn_1a kn_ltT kn_ltA hx hz⟩
  · have e : kn_lo b [x, z, y] = kn_lo b [z, x, y] := by
      simp [kn_lo, List.filter_cons, h]
    rw [e]
    exact ⟨kn_To_rfl _ _, kn_To_rfl _ _, kn_To_rfl _ _, kn_To_rfl _ _⟩
theorem kn_E2 {x y z : Nat} (hx : x < y) (hz : y < z) : kn_Eq [y, z, x] [y, x, z] := by
  refine ⟨(List.Perm.swap x z []).cons y, fun b => ?_⟩
  by_cases h : z < b
  · have e1 : kn_lo b [y, z, x] = [y, z, x] := by
      have h1 : x < b := by omega
      have h2 : y < b := by omega
      simp [kn_lo, List.filter_cons, h, h1, h2]
    have e2 : kn_lo b [y, x, z] = [y, x, z] := by
      have h1 : x < b := by omega
      have h2 : y < b := by omega
      simp [kn_lo, List.filter_cons, h, h1, h2]
    rw [e1, e2]
    have hxz : x < z := by omega
    exact ⟨kn_2b kn_gtA hxz, kn_2a kn_gtT kn_gtA hz hx, kn_2a kn_ltT kn_ltA hx hz, kn_2b kn_ltA hxz⟩
  · have e : kn_lo b [y, z, x] = kn_lo b [y, x, z] := by
      simp [kn_lo, List.filter_cons, h]
    rw [e]
    exact ⟨kn_To_rfl _ _, kn_To_rfl _ _, kn_To_rfl _ _, kn_To_rfl _ _⟩
theorem kn_A : ∀ (r : List Nat) (b x : Nat), x < b → (b :: r).Pairwise (· < ·) → kn_Eq (b :: (r ++ [x])) (b :: x :: r) := by
  intro r
  induction r with
  | nil => intro b x _ _; exact kn_rfl _
  | cons c r ih =>
    intro b x hx hp
    have hbc : b < c := (List.pairwise_cons.mp hp).1 c (by simp)
    have h1 := kn_l (ih c x (by omega) (List.pairwise_cons.mp hp).2) [b]
    have h2 := kn_r (kn_E2 hx hbc) r
    exact kn_tr h1 h2
theorem kn_B : ∀ (l : List Nat) (b x : Nat), l.Pairwise (· < ·) → (∀ a ∈ l, a < x) → x < b → kn_Eq (l ++ [b, x]) (b :: (l ++ [x])) := by
  intro l
  induction l with
  | nil => intro b x _ _ _; exact kn_rfl _
  | cons a l ih =>
    intro b x hp hl hx
    have hax : a < x := hl a (by simp)
    have h1 := kn_l (ih b x (List.pairwise_cons.mp hp).2 (fun c hc => hl c (by simp [hc])) hx) [a]
    refine kn_tr h1 ?_
    cases l with
    | nil => exact kn_E1 hax hx
    | cons d l =>
      have had : a < d := (List.pairwise_cons.mp hp).1 d (by simp)
      have hdx : d < x := hl d (by simp)
      exact kn_r (kn_E1 had (by omega : d < b)) (l ++ [x])
/-- a row takes x in: what it puts out stands ahead of it -/
theorem kn_row {l r : List Nat} {b x : Nat} (hl : l.Pairwise (· < ·)) (hx : ∀ a ∈ l, a < x) (hb : x < b) (hr : (b :: r).Pairwise (· < ·)) : kn_Eq ((l ++ b :: r) ++ [x]) (b :: (l ++ x :: r)) := by
  have h1 := kn_l (kn_A r b x hb hr) l
  have h2 := kn_r (kn_B l b x hl hx hb) r
  have e1 : (l ++ b :: r) ++ [x] = l ++ (b :: (r ++ [x])) := by simp
  have e2 : l ++ (b :: x :: r) = l ++ [b, x] ++ r := by simp
  have e3 : b :: (l ++ [x]) ++ r = b :: (l ++ x :: r) := by simp
  rw [e1]
  refine kn_tr h1 ?_
  rw [e2, ← e3]
  exact h2
end
section
/-- rows of the staircase: the row r, from left to right -/
def gt_row (T : Nat → Nat → Nat) (l : Nat → Nat) (r : Nat) : List Nat := (List.range (l r)).map (T r)
/-- the rows a + d - 1, .., a, in this order -/
def gt_seg (T : Nat → Nat → Nat) (l : Nat → Nat) (a : Nat) : Nat → List Nat
  | 0 => []
  | d + 1 => gt_row T l (a + d) ++ gt_seg T l a d
theorem gt_split (T : Nat → Nat → Nat) (l : Nat → Nat) (a e : Nat) : ∀ d, gt_seg T l a (d + e) = gt_seg T l (a + e) d ++ gt_seg T l a e := by
  intro d
  induction d with
  | zero => simp [gt_seg]
  | succ d ih =>
    have e1 : d + 1 + e = (d + e) + 1 := by omega
    have e2 : a + (d + e) = a + e + d := by omega
    rw [e1, gt_seg, ih, gt_seg, e2, List.append_assoc]
theorem gt_one (T : Nat → Nat → Nat) (l : Nat → Nat) (a : Nat) : gt_seg T l a 1 = gt_row T l a := by
  simp [gt_seg]
theorem gt_cong {T T' : Nat → Nat → Nat} {l l' : Nat → Nat} {a : Nat} : ∀ d, (∀ r, a ≤ r → r < a + d → gt_row T l r = gt_row T' l' r) → gt_seg T l a d = gt_seg T' l' a d := by
  intro d
  induction d with
  | zero => intro _; rfl
  | succ d ih =>
    intro h
    rw [gt_seg, gt_seg, ih (fun r h1 h2 => h r h1 (by omega)), h (a + d) (by omega) (by omega)]
/-- the whole word cut at the row r -/
theorem gt_cut (T : Nat → Nat → Nat) (l : Nat → Nat) {r : Nat} (hr : r < 10) : gt_seg T l r (10 - r) = gt_seg T l (r + 1) (10 - (r + 1)) ++ gt_row T l r := by
  have e : 10 - r = (10 - (r + 1)) + 1 := by omega
  rw [e, gt_split, gt_one]
theorem gt_all (T : Nat → Nat → Nat) (l : Nat → Nat) {r : Nat} (hr : r ≤ 10) : gt_seg T l 0 10 = gt_seg T l r (10 - r) ++ gt_seg T l 0 r := by
  have h := gt_split T l 0 r (10 - r)
  have e : 10 - r + r = 10 := by omega
  rw [e, Nat.zero_add] at h
  exact h
theorem gt_seg_mem {T : Nat → Nat → Nat} {l : Nat → Nat} {a r c : Nat} : ∀ {d}, a ≤ r → r < a + d → c < l r → T r c ∈ gt_seg T l a d := by
  intro d
  induction d with
  | zero => intro h1 h2 _; omega
  | succ d ih =>
    intro h1 h2 h3
    rw [gt_seg]
    by_cases h : r = a + d
    · subst h
      exact List.mem_append_left _ (List.mem_map.mpr ⟨c, List.mem_range.mpr h3, rfl⟩)
    · exact List.mem_append_right _ (ih h1 (by omega) h3)
theorem gt_row_len (T : Nat → Nat → Nat) (l : Nat → Nat) (r : Nat) : (gt_row T l r).length = l r := by
  simp [gt_row]
/-- sums and counts below n -/
def gt_sum (f : Nat → Nat) : Nat → Nat
  | 0 => 0
  | n + 1 => gt_sum f n + f n
theorem gt_seg_len (T : Nat → Nat → Nat) (l : Nat → Nat) : ∀ d, (gt_seg T l 0 d).length = gt_sum l d := by
  intro d
  induction d with
  | zero => rfl
  | succ d ih => rw [gt_seg, List.length_append, ih, gt_row_len, gt_sum, Nat.zero_add]; omega
theorem gt_sum_cong {f g : Nat → Nat} : ∀ n, (∀ i, i < n → f i = g i) → gt_sum f n = gt_sum g n := by
  intro n
  induction n with
  | zero => intro _; rfl
  | succ n ih => intro h; rw [gt_sum, gt_sum, ih (fun i hi => h i (by omega)), h n (by omega)]
theorem gt_sum_le {f g : Nat → Nat} : ∀ n, (∀ i, i < n → f i ≤ g i) → gt_sum f n ≤ gt_sum g n := by
  intro n
  induction n with
  | zero => intro _; exact Nat.le_refl _
  | succ n ih =>
    intro h
    have h1 := ih (fun i hi => h i (by omega))
    have h2 := h n (by omega)
    rw [gt_sum, gt_sum]; omega
theorem gt_sum_one : ∀ n, gt_sum (fun _ => 1) n = n := by
  intro n
  induction n with
  | zero => rfl
  | succ n ih => rw [gt_sum, ih]
theorem gt_sum_mem {f : Nat → Nat} {i : Nat} : ∀ {n}, i < n → f i ≤ gt_sum f n := by
  intro n
  induction n with
  | zero => intro h; omega
  | succ n ih =>
    intro h
    rw [gt_sum]
    by_cases e : i = n
    · subst e; omega
    · have := ih (by omega); omega
theorem gt_sum_zero : ∀ n, gt_sum (fun _ => 0) n = 0 := by
  intro n
  induction n with
  | zero => rfl
  | succ n ih => rw [gt_sum, ih]
theorem gt_sum_mono {f : Nat → Nat} {m : Nat} : ∀ {n}, m ≤ n → gt_sum f m ≤ gt_sum f n := by
  intro n
  induction n with
  | zero => intro h; have : m = 0 := by omega
            subst this; exact Nat.le_refl _
  | succ n ih =>
    intro h
    by_cases e : m = n + 1
    · subst e; exact Nat.le_refl _
    · have := ih (by omega); rw [gt_sum]; omega
/-- a staircase: rows rise, columns rise downwards, rows get no longer -/
def gt_Tab (T : Nat → Nat → Nat) (l : Nat → Nat) : Prop :=
  (∀ r, r < 10 → ∀ c c', c < c' → c' < l r → T r c < T r c') ∧ (∀ r, r + 1 < 10 → l (r + 1) ≤ l r) ∧ (∀ r c, r + 1 < 10 → c < l (r + 1) → T r c < T (r + 1) c)
theorem gt_lmono {T : Nat → Nat → Nat} {l : Nat → Nat} (h : gt_Tab T l) : ∀ {r r' : Nat}, r ≤ r' → r' < 10 → l r' ≤ l r := by
  intro r r'
  induction r' with
  | zero => intro h1 _; have : r = 0 := by omega
            subst this; exact Nat.le_refl _
  | succ q ih =>
    intro h1 h2
    by_cases e : r = q + 1
    · subst e; exact Nat.le_refl _
    · have h3 := ih (by omega) (by omega)
      have h4 := h.2.1 q h2
      omega
theorem gt_cmono {T : Nat → Nat → Nat} {l : Nat → Nat} (h : gt_Tab T l) {c : Nat} : ∀ {r r' : Nat}, r < r' → r' < 10 → c < l r' → T r c < T r' c := by
  intro r r'
  induction r' with
  | zero => intro h1 _ _; omega
  | succ q ih =>
    intro h1 h2 h3
    have h4 := h.2.2 q c h2 h3
    by_cases e : r = q
    · subst e; exact h4
    · have h5 := h.2.1 q h2
      have h6 := ih (by omega) (by omega) (by omega)
      omega
def gt_put (T : Nat → Nat → Nat) (r c m : Nat) : Nat → Nat → Nat := fun r' c' => if r' = r ∧ c' = c then m else T r' c'
def gt_inc (l : Nat → Nat) (r : Nat) : Nat → Nat := fun r' => if r' = r then l r + 1 else l r'
theorem gt_put_s {T : Nat → Nat → Nat} {r c m : Nat} : gt_put T r c m r c = m := if_pos ⟨rfl, rfl⟩
theorem gt_put_r {T : Nat → Nat → Nat} {r c m r' c' : Nat} (h : r' ≠ r) : gt_put T r c m r' c' = T r' c' := if_neg (fun e => h e.1)
theorem gt_put_c {T : Nat → Nat → Nat} {r c m r' c' : Nat} (h : c' ≠ c) : gt_put T r c m r' c' = T r' c' := if_neg (fun e => h e.2)
theorem gt_inc_s {l : Nat → Nat} {r : Nat} : gt_inc l r r = l r + 1 := if_pos rfl
theorem gt_inc_n {l : Nat → Nat} {r r' : Nat} (h : r' ≠ r) : gt_inc l r r' = l r' := if_neg h
theorem gt_row_put_ne {T : Nat → Nat → Nat} {l : Nat → Nat} {r c m r' : Nat} (h : r' ≠ r) : gt_row (gt_put T r c m) l r' = gt_row T l r' := by
  apply List.map_congr_left
  intro a _
  exact gt_put_r h
theorem gt_row_end {T : Nat → Nat → Nat} {l : Nat → Nat} {r m : Nat} : gt_row (gt_put T r (l r) m) (gt_inc l r) r = gt_row T l r ++ [m] := by
  unfold gt_row
  rw [gt_inc_s, List.range_succ, List.map_append, List.map_cons, List.map_nil, gt_put_s]
  congr 1
  apply List.map_congr_left
  intro a ha
  have := List.mem_range.mp ha
  exact gt_put_c (by omega)
theorem gt_row_inc_ne {T : Nat → Nat → Nat} {l : Nat → Nat} {r r' c m : Nat} (h : r' ≠ r) : gt_row (gt_put T r c m) (gt_inc l r) r' = gt_row T l r' := by
  have e : gt_row (gt_put T r c m) (gt_inc l r) r' = gt_row (gt_put T r c m) l r' := by
    unfold gt_row; rw [gt_inc_n h]
  rw [e, gt_row_put_ne h]
/-- a row cut at the place c -/
theorem gt_row_at {T : Nat → Nat → Nat} {l : Nat → Nat} {r c : Nat} (h : c < l r) : gt_row T l r = (List.range c).map (T r) ++ T r c :: (List.range (l r - c - 1)).map (fun i => T r (c + 1 + i)) := by
  unfold gt_row
  have e : l r = (c + 1) + (l r - c - 1) := by omega
  conv => lhs; rw [e, List.range_add, List.range_succ]
  simp [List.map_append, List.map_map, Function.comp_def]
/-- m is on its way into the row r; W is all that has come in -/
def gt_Mid (W : List Nat) (T : Nat → Nat → Nat) (l : Nat → Nat) (r m : Nat) : Prop :=
  gt_Tab T l ∧ (W.Nodup ∧ W.length ≤ 10 ∧ ∀ w ∈ W, w < 100) ∧ r ≤ 10 ∧ kn_Eq W (gt_seg T l r (10 - r) ++ ([m] ++ gt_seg T l 0 r)) ∧ (∀ q, r = q + 1 → ∃ j, j < l q ∧ (∀ c, c ≤ j → T q c < m) ∧ (∀ c, j ≤ c → r < 10 → c < l r → m < T r c))
def gt_Done (W : List Nat) (T : Nat → Nat → Nat) (l : Nat → Nat) : Prop :=
  gt_Tab T l ∧ (W.Nodup ∧ W.length ≤ 10 ∧ ∀ w ∈ W, w < 100) ∧ kn_Eq W (gt_seg T l 0 10)
theorem gt_Mid_sum {W : List Nat} {T : Nat → Nat → Nat} {l : Nat → Nat} {r m : Nat} (h : gt_Mid W T l r m) : gt_sum l 10 + 1 = W.length := by
  obtain ⟨_, _, hr, ⟨hp, _⟩, _⟩ := h
  rw [hp.length_eq, ← gt_seg_len T l 10, gt_all T l hr]
  simp only [List.length_append, List.length_cons, List.length_nil]
  omega
theorem gt_Done_sum {W : List Nat} {T : Nat → Nat → Nat} {l : Nat → Nat} (h : gt_Done W T l) : gt_sum l 10 = W.length := by
  rw [h.2.2.1.length_eq, gt_seg_len]
theorem gt_Mid_lt {W : List Nat} {T : Nat → Nat → Nat} {l : Nat → Nat} {r m : Nat} (h : gt_Mid W T l r m) : r < 10 := by
  have hs := gt_Mid_sum h
  obtain ⟨ht, ⟨_, hW, _⟩, hr, _, hj⟩ := h
  apply Classical.byContradiction
  intro hn
  obtain ⟨j, hj, _⟩ := hj 9 (by omega)
  have h1 : gt_sum (fun _ => 1) 10 ≤ gt_sum l 10 := gt_sum_le 10 (fun i hi => by
    have := gt_lmono ht (r := i) (r' := 9) (by omega) (by omega)
    omega)
  rw [gt_sum_one] at h1
  omega
theorem gt_Mid_len {W : List Nat} {T : Nat → Nat → Nat} {l : Nat → Nat} {r m : Nat} (h : gt_Mid W T l r m) {q : Nat} (hq : q < 10) : l q < 10 := by
  have hs := gt_Mid_sum h
  have h1 := gt_sum_mem (f := l) hq
  have := h.2.1.2.1
  omega
theorem gt_Done_len {W : List Nat} {T : Nat → Nat → Nat} {l : Nat → Nat} (h : gt_Done W T l) {q : Nat} (hq : q < 10) : l q ≤ 10 := by
  have hs := gt_Done_sum h
  have h1 := gt_sum_mem (f := l) hq
  have := h.2.1.2.1
  omega
theorem gt_Mid_val {W : List Nat} {T : Nat → Nat → Nat} {l : Nat → Nat} {r m : Nat} (h : gt_Mid W T l r m) : m < 100 ∧ ∀ q c, q < 10 → c < l q → T q c < 100 := by
  obtain ⟨_, ⟨_, _, hv⟩, hr, ⟨hp, _⟩, _⟩ := h
  refine ⟨hv m (hp.mem_iff.mpr (by simp)), fun q c hq hc => hv _ (hp.mem_iff.mpr ?_)⟩
  by_cases hqr : q < r
  · exact List.mem_append_right _ (List.mem_append_right _ (gt_seg_mem (Nat.zero_le _) (by omega) hc))
  · exact List.mem_append_left _ (gt_seg_mem (by omega) (by omega) hc)
theorem gt_Done_val {W : List Nat} {T : Nat → Nat → Nat} {l : Nat → Nat} (h : gt_Done W T l) {q c : Nat} (hq : q < 10) (hc : c < l q) : T q c < 100 :=
  h.2.1.2.2 _ (h.2.2.1.mem_iff.mpr (gt_seg_mem (Nat.zero_le _) (by omega) hc))
theorem gt_start {W : List Nat} {T : Nat → Nat → Nat} {l : Nat → Nat} {m : Nat} (h : gt_Done W T l) (hW : (W ++ [m]).Nodup ∧ (W ++ [m]).length ≤ 10 ∧ ∀ w ∈ W ++ [m], w < 100) : gt_Mid (W ++ [m]) T l 0 m :=
  ⟨h.1, hW, by omega, kn_r h.2.2 [m], fun q hq => by omega⟩
theorem gt_ne {W : List Nat} {T : Nat → Nat → Nat} {l : Nat → Nat} {r m c : Nat} (h : gt_Mid W T l r m) (hc : c < l r) : T r c ≠ m := by
  have hr := gt_Mid_lt h
  obtain ⟨_, ⟨hn, _⟩, _, ⟨hp, _⟩, _⟩ := h
  have hn' := hp.nodup_iff.mp hn
  intro e
  exact (List.nodup_append.mp hn').2.2 (T r c) (gt_seg_mem (Nat.le_refl _) (by omega) hc) m (by simp) e
theorem gt_end {W : List Nat} {T : Nat → Nat → Nat} {l : Nat → Nat} {r m : Nat} (h : gt_Mid W T l r m) (hm : ∀ c, c < l r → T r c < m) : gt_Done W (gt_put T r (l r) m) (gt_inc l r) := by
  have hr := gt_Mid_lt h
  obtain ⟨⟨t1, t2, t3⟩, hW, _, hE, hj⟩ := h
  refine ⟨⟨?_, ?_, ?_⟩, hW, ?_⟩
  · intro q hq c c' h1 h2
    by_cases e : q = r
    · subst e
      rw [gt_inc_s] at h2
      rw [gt_put_c (by omega : c ≠ l q)]
      by_cases e' : c' = l q
      · subst e'
        rw [gt_put_s]
        exact hm c h1
      · rw [gt_put_c e']
        exact t1 q hq c c' h1 (by omega)
    · rw [gt_inc_n e] at h2
      rw [gt_put_r e, gt_put_r e]
      exact t1 q hq c c' h1 h2
  · intro q hq
    by_cases e : q = r
    · subst e
      rw [gt_inc_s, gt_inc_n (by omega)]
      have := t2 q hq
      omega
    · rw [gt_inc_n e]
      by_cases e' : q + 1 = r
      · subst e'
        rw [gt_inc_s]
        obtain ⟨j, j1, j2, j3⟩ := hj q rfl
        have : l (q + 1) ≤ j := by
          apply Classical.byContradiction
          intro hn
          have a1 := j3 j (Nat.le_refl _) hq (by omega)
          have a2 := hm j (by omega)
          omega
        omega
      · rw [gt_inc_n e']
        exact t2 q hq
  · intro q c hq hc
    by_cases e : q = r
    · subst e
      rw [gt_inc_n (by omega)] at hc
      have := t2 q hq
      rw [gt_put_c (by omega), gt_put_r (by omega)]
      exact t3 q c hq hc
    · rw [gt_put_r e]
      by_cases e' : q + 1 = r
      · subst e'
        rw [gt_inc_s] at hc
        obtain ⟨j, j1, j2, j3⟩ := hj q rfl
        have : l (q + 1) ≤ j := by
          apply Classical.byContradiction
          intro hn
          have a1 := j3 j (Nat.le_refl _) hq (by omega)
          have a2 := hm j (by omega)
          omega
        by_cases e2 : c = l (q + 1)
        · subst e2
          rw [gt_put_s]
          exact j2 _ this
        · rw [gt_put_c e2]
          exact t3 q c hq (by omega)
      · rw [gt_inc_n e'] at hc
        rw [gt_put_r e']
        exact t3 q c hq hc
  · refine kn_tr hE (kn_of_eq ?_)
    rw [gt_all _ _ (by omega : r ≤ 10), gt_cut T l hr, gt_cut _ _ hr, gt_row_end]
    rw [gt_cong (T := gt_put T r (l r) m) (l := gt_inc l r) (T' := T) (l' := l) (10 - (r + 1)) (fun q h1 h2 => gt_row_inc_ne (by omega))]
    rw [gt_cong (T := gt_put T r (l r) m) (l := gt_inc l r) (T' := T) (l' := l) r (fun q h1 h2 => gt_row_inc_ne (by omega))]
    simp only [List.append_assoc]
theorem gt_bmp {W : List Nat} {T : Nat → Nat → Nat} {l : Nat → Nat} {r m c : Nat} (h : gt_Mid W T l r m) (hc : c < l r) (hm : ∀ c', c' < c → T r c' < m) (hn : ¬ T r c < m) : gt_Mid W (gt_put T r c m) l (r + 1) (T r c) := by
  have hr := gt_Mid_lt h
  have hne := gt_ne h hc
  obtain ⟨⟨t1, t2, t3⟩, hW, _, hE, hj⟩ := h
  have hmo : m < T r c := by omega
  refine ⟨⟨?_, t2, ?_⟩, hW, by omega, ?_, ?_⟩
  · intro q hq a a' h1 h2
    by_cases e : q = r
    · subst e
      by_cases e1 : a = c
      · subst e1
        rw [gt_put_s, gt_put_c (by omega)]
        have := t1 q hq a a' h1 h2
        omega
      · rw [gt_put_c e1]
        by_cases e2 : a' = c
        · subst e2
          rw [gt_put_s]
          exact hm a h1
        · rw [gt_put_c e2]
          exact t1 q hq a a' h1 h2
    · rw [gt_put_r e, gt_put_r e]
      exact t1 q hq a a' h1 h2
  · intro q a hq ha
    by_cases e : q = r
    · subst e
      rw [gt_put_r (by omega : q + 1 ≠ q)]
      have h3 := t3 q a hq ha
      by_cases e1 : a = c
      · subst e1
        rw [gt_put_s]
        omega
      · rw [gt_put_c e1]
        exact h3
    · rw [gt_put_r e]
      by_cases e' : q + 1 = r
      · subst e'
        obtain ⟨j, j1, j2, j3⟩ := hj q rfl
        by_cases e1 : a = c
        · subst e1
          rw [gt_put_s]
          apply j2
          apply Classical.byContradiction
          intro hn'
          have a1 := j3 j (Nat.le_refl _) hq (by omega)
          have a2 := hm j (by omega)
          omega
        · rw [gt_put_c e1]
          exact t3 q a hq ha
      · rw [gt_put_r e']
        exact t3 q a hq ha
  · have erow : gt_row (gt_put T r c m) l r = (List.range c).map (T r) ++ m :: (List.range (l r - c - 1)).map (fun i => T r (c + 1 + i)) := by
      rw [gt_row_at hc, gt_put_s]
      congr 1
      · apply List.map_congr_left
        intro a ha
        have := List.mem_range.mp ha
        exact gt_put_c (by omega)
      · congr 1
        apply List.map_congr_left
        intro a _
        exact gt_put_c (by omega)
    have eseg : gt_seg (gt_put T r c m) l 0 (r + 1) = gt_row (gt_put T r c m) l r ++ gt_seg T l 0 r := by
      rw [gt_seg, Nat.zero_add]
      congr 1
      exact gt_cong r (fun q h1 h2 => gt_row_put_ne (by omega))
    have eup : gt_seg (gt_put T r c m) l (r + 1) (10 - (r + 1)) = gt_seg T l (r + 1) (10 - (r + 1)) :=
      gt_cong _ (fun q h1 h2 => gt_row_put_ne (by omega))
    rw [eseg, eup, erow]
    refine kn_tr hE ?_
    rw [gt_cut T l hr, gt_row_at hc]
    have hk := kn_row (l := (List.range c).map (T r)) (r := (List.range (l r - c - 1)).map (fun i => T r (c + 1 + i))) (b := T r c) (x := m)
      (by
        rw [List.pairwise_map]
        refine List.pairwise_lt_range.imp_of_mem ?_
        intro a b ha hb hab
        have := List.mem_range.mp hb
        exact t1 r hr a b hab (by omega))
      (by
        intro a ha
        obtain ⟨i, hi, rfl⟩ := List.mem_map.mp ha
        exact hm i (List.mem_range.mp hi))
      hmo
      (by
        rw [List.pairwise_cons]
        refine ⟨?_, ?_⟩
        · intro a ha
          obtain ⟨i, hi, rfl⟩ := List.mem_map.mp ha
          have := List.mem_range.mp hi
          exact t1 r hr c (c + 1 + i) (by omega) (by omega)
        · rw [List.pairwise_map]
          refine List.pairwise_lt_range.imp_of_mem ?_
          intro a b ha hb hab
          have := List.mem_range.mp hb
          exact t1 r hr _ _ (by omega) (by omega))
    have hk2 := kn_ctx hk (gt_seg T l (r + 1) (10 - (r + 1))) (gt_seg T l 0 r)
    simpa only [List.append_assoc, List.cons_append, List.nil_append] using hk2
  · intro q hq
    have : q = r := by omega
    subst this
    refine ⟨c, hc, ?_, ?_⟩
    · intro a ha
      by_cases e : a = c
      · subst e
        rw [gt_put_s]
        exact hmo
      · rw [gt_put_c e]
        exact t1 q hr a c (by omega) hc
    · intro a ha h10 hl
      rw [gt_put_r (by omega : q + 1 ≠ q)]
      have h3 := t3 q a h10 hl
      by_cases e : c = a
      · subst e; exact h3
      · have h4 := t2 q h10
        have h5 := t1 q hr c a (by omega) (by omega)
        omega
end
section
/-- the places of the rows n - 1, .., 0 in reading order -/
def gt_cells (l : Nat → Nat) : Nat → List (Nat × Nat)
  | 0 => []
  | n + 1 => (List.range (l n)).map (fun c => (n, c)) ++ gt_cells l n
theorem gt_cells_word (T : Nat → Nat → Nat) (l : Nat → Nat) : ∀ n, gt_seg T l 0 n = (gt_cells l n).map (fun p => T p.1 p.2) := by
  intro n
  induction n with
  | zero => rfl
  | succ n ih =>
    rw [gt_seg, gt_cells, List.map_append, ih, Nat.zero_add]
    congr 1
    simp [gt_row, List.map_map, Function.comp_def]
theorem gt_cells_mem {l : Nat → Nat} : ∀ {n : Nat} {p : Nat × Nat}, p ∈ gt_cells l n ↔ p.1 < n ∧ p.2 < l p.1 := by
  intro n
  induction n with
  | zero => intro p; simp [gt_cells]
  | succ n ih =>
    intro p
    rw [gt_cells, List.mem_append, ih]
    constructor
    · rintro (h | h)
      · obtain ⟨c, hc, rfl⟩ := List.mem_map.mp h
        exact ⟨Nat.lt_succ_self n, List.mem_range.mp hc⟩
      · exact ⟨by omega, h.2⟩
    · rintro ⟨h1, h2⟩
      by_cases e : p.1 = n
      · left
        subst e
        exact List.mem_map.mpr ⟨p.2, List.mem_range.mpr h2, rfl⟩
      · right
        exact ⟨by omega, h2⟩
def gt_ord (p q : Nat × Nat) : Prop := q.1 < p.1 ∨ (p.1 = q.1 ∧ p.2 < q.2)
theorem gt_cells_ord (l : Nat → Nat) : ∀ n, (gt_cells l n).Pairwise gt_ord := by
  intro n
  induction n with
  | zero => exact List.Pairwise.nil
  | succ n ih =>
    rw [gt_cells, List.pairwise_append]
    refine ⟨?_, ih, ?_⟩
    · rw [List.pairwise_map]
      exact List.pairwise_lt_range.imp (fun h => Or.inr ⟨rfl, h⟩)
    · intro a ha b hb
      obtain ⟨c, _, rfl⟩ := List.mem_map.mp ha
      exact Or.inl (gt_cells_mem.mp hb).1
theorem gt_cells_len (l : Nat → Nat) : ∀ n, (gt_cells l n).length = gt_sum l n := by
  intro n
  induction n with
  | zero => rfl
  | succ n ih => rw [gt_cells, List.length_append, ih, List.length_map, List.length_range, gt_sum]; omega
theorem gt_cells_sub {l l' : Nat → Nat} (h : ∀ r, l' r ≤ l r) : ∀ n, (gt_cells l' n).Sublist (gt_cells l n) := by
  intro n
  induction n with
  | zero => exact List.Sublist.refl _
  | succ n ih =>
    rw [gt_cells, gt_cells]
    exact ((List.range_sublist.mpr (h n)).map _).append ih
theorem gt_len_lt {s : List Nat} {n : Nat} (h : s.Nodup) (hn : ∀ a ∈ s, a < n) : s.length ≤ n := by
  have h1 := h.length_le_of_subset (l₂ := List.range n) (fun a ha => List.mem_range.mpr (hn a ha))
  simpa using h1
theorem gt_part1 (g : Nat × Nat → Nat) (n : Nat) : ∀ l : List (Nat × Nat), (l.filter (fun p => decide (g p < n + 1))).length = (l.filter (fun p => decide (g p < n))).length + (l.filter (fun p => decide (g p = n))).length := by
  intro l
  induction l with
  | nil => rfl
  | cons p l ih =>
    by_cases h1 : g p < n
    · have h2 : g p < n + 1 := by omega
      have h3 : ¬ g p = n := by omega
      simp only [List.filter_cons, h1, h2, h3, decide_true, decide_false, if_true, List.length_cons, ih]
      simp only [Bool.false_eq_true, if_false]
      omega
    · by_cases h3 : g p = n
      · have h2 : g p < n + 1 := by omega
        simp only [List.filter_cons, h1, h2, h3, decide_true, decide_false, if_true, List.length_cons]
        simp [h3, ih]
        omega
      · have h2 : ¬ g p < n + 1 := by omega
        simp only [List.filter_cons, h1, h2, h3, decide_false]
        simpa using ih
theorem gt_part (l : List (Nat × Nat)) (g : Nat × Nat → Nat) : ∀ n, (l.filter (fun p => decide (g p < n))).length = gt_sum (fun c => (l.filter (fun p => decide (g p = c))).length) n := by
  intro n
  induction n with
  | zero => simp [gt_sum]
  | succ n ih => rw [gt_part1, gt_sum, ih]
theorem gt_parts {l : List (Nat × Nat)} {g : Nat × Nat → Nat} {n : Nat} (h : ∀ p ∈ l, g p < n) : l.length = gt_sum (fun c => (l.filter (fun p => decide (g p = c))).length) n := by
  have e : l.filter (fun p => decide (g p < n)) = l := List.filter_eq_self.mpr (fun p hp => decide_eq_true (h p hp))
  rw [← gt_part, e]
theorem gt_sum_add (f g : Nat → Nat) : ∀ n, gt_sum (fun i => f i + g i) n = gt_sum f n + gt_sum g n := by
  intro n
  induction n with
  | zero => rfl
  | succ n ih => simp only [gt_sum, ih]; omega
theorem gt_ind (v : Nat) : ∀ m, gt_sum (fun c => if c < v then 1 else 0) m = min m v := by
  intro m
  induction m with
  | zero => simp [gt_sum]
  | succ m ih =>
    simp only [gt_sum, ih]
    split <;> omega
theorem gt_swap (l : Nat → Nat) (m : Nat) : ∀ K, (∀ r, r < K → l r ≤ m) → gt_sum (fun c => gt_sum (fun r => if c < l r then 1 else 0) K) m = gt_sum l K := by
  intro K
  induction K with
  | zero => intro _; exact gt_sum_zero m
  | succ K ih =>
    intro h
    have e : gt_sum (fun c => gt_sum (fun r => if c < l r then 1 else 0) (K + 1)) m = gt_sum (fun c => gt_sum (fun r => if c < l r then 1 else 0) K) m + gt_sum (fun c => if c < l K then 1 else 0) m := by
      rw [← gt_sum_add]
      rfl
    have h2 := h K (by omega)
    rw [e, ih (fun r hr => h r (by omega)), gt_ind, gt_sum]
    omega
section
variable {T : Nat → Nat → Nat} {l : Nat → Nat} {k : Nat} {t : List Nat}
theorem gt_rise_up (h : gt_Tab T l) (h10 : ∀ r, r < 10 → l r ≤ 10) (ht : t.Sublist (gt_seg T l 0 10)) (g : kn_Good (· > ·) k t) : t.length ≤ gt_sum l (min k 10) := by
  rw [gt_cells_word] at ht
  obtain ⟨l', hl', rfl⟩ := List.sublist_map_iff.mp ht
  have mem : ∀ p ∈ l', p.1 < 10 ∧ p.2 < l p.1 := fun p hp => gt_cells_mem.mp (hl'.subset hp)
  have ord : l'.Pairwise gt_ord := (gt_cells_ord l 10).sublist hl'
  have hcol : ∀ c, c < 10 → (l'.filter (fun p => decide (p.2 = c))).length ≤ gt_sum (fun r => if c < l r then 1 else 0) (min k 10) := by
    intro c _
    have hf : (l'.filter (fun p => decide (p.2 = c))).Sublist l' := List.filter_sublist
    have hc : ∀ p ∈ l'.filter (fun p => decide (p.2 = c)), p.2 = c := fun p hp => of_decide_eq_true (List.mem_filter.mp hp).2
    generalize l'.filter (fun p => decide (p.2 = c)) = f at hf hc
    have fo : f.Pairwise (fun p q => q.1 < p.1) := (ord.sublist hf).imp_of_mem (fun {p q} hp hq ho => by
      have e1 := hc p hp
      have e2 := hc q hq
      rcases ho with ho | ho
      · exact ho
      · omega)
    have fk : f.length ≤ k := by
      have := g (f.map (fun p => T p.1 p.2)) (hf.map _) (by
        rw [List.pairwise_map]
        refine fo.imp_of_mem (fun {p q} hp hq ho => ?_)
        have e1 := hc p hp
        have e2 := hc q hq
        have m1 := mem p (hf.subset hp)
        rw [e1, e2]
        rw [e1] at m1
        exact gt_cmono h ho m1.1 m1.2)
      simpa using this
    have fn : (f.map (fun p => p.1)).Nodup := by
      unfold List.Nodup
      rw [List.pairwise_map]
      exact fo.imp (fun ho => by omega)
    have hi : ∀ i, i < f.length → i < 10 ∧ c < l i := by
      intro i hi
      have hex : ∃ p ∈ f, i ≤ p.1 := by
        apply Classical.byContradiction
        intro hn
        have := gt_len_lt (n := i) fn (fun a ha => by
          obtain ⟨p, hp, rfl⟩ := List.mem_map.mp ha
          apply Classical.byContradiction
          intro h'
          exact hn ⟨p, hp, by omega⟩)
        simp only [List.length_map] at this
        omega
      obtain ⟨p, hp, hip⟩ := hex
      have m1 := mem p (hf.subset hp)
      have m2 := gt_lmono h hip m1.1
      have m3 := hc p hp
      omega
    have f10 : f.length ≤ 10 := by
      apply Classical.byContradiction
      intro hn
      have := hi 10 (by omega)
      omega
    have e1 : gt_sum (fun r => if c < l r then 1 else 0) f.length = f.length := by
      rw [gt_sum_cong (g := fun _ => 1) f.length (fun i h' => if_pos (hi i h').2), gt_sum_one]
    have e2 : gt_sum (fun r => if c < l r then 1 else 0) f.length ≤ gt_sum (fun r => if c < l r then 1 else 0) (min k 10) := gt_sum_mono (by omega)
    omega
  rw [List.length_map, gt_parts (g := fun p => p.2) (n := 10) (fun p hp => by
    have m1 := mem p hp
    have m2 := h10 p.1 m1.1
    omega)]
  have s1 := gt_sum_le 10 hcol
  rw [gt_swap l 10 (min k 10) (fun r hr => h10 r (by omega))] at s1
  exact s1
theorem gt_rise_lo (h : gt_Tab T l) (k : Nat) : ∃ t : List Nat, t.Sublist (gt_seg T l 0 10) ∧ kn_Good (· > ·) k t ∧ t.length = gt_sum l (min k 10) := by
  refine ⟨gt_seg T l 0 (min k 10), ?_, ?_, gt_seg_len T l _⟩
  · rw [gt_all T l (by omega : min k 10 ≤ 10)]
    exact List.sublist_append_right _ _
  · intro s hs hp
    rw [gt_cells_word] at hs
    obtain ⟨f, hf, rfl⟩ := List.sublist_map_iff.mp hs
    have mem : ∀ p ∈ f, p.1 < min k 10 ∧ p.2 < l p.1 := fun p hp => gt_cells_mem.mp (hf.subset hp)
    have fo : f.Pairwise (fun p q => q.1 < p.1) := (((gt_cells_ord l (min k 10)).sublist hf).and (List.pairwise_map.mp hp)).imp_of_mem (fun {p q} hp hq ho => by
      rcases ho.1 with h1 | ⟨h1, h2⟩
      · exact h1
      · exfalso
        have h3 := ho.2
        have m1 := mem q hq
        have m2 := mem p hp
        have h4 := h.1 q.1 (by omega) p.2 q.2 h2 m1.2
        rw [h1] at h3
        omega)
    have fn : (f.map (fun p => p.1)).Nodup := by
      unfold List.Nodup
      rw [List.pairwise_map]
      exact fo.imp (fun ho => by omega)
    have := gt_len_lt (n := min k 10) fn (fun a ha => by
      obtain ⟨p, hp, rfl⟩ := List.mem_map.mp ha
      exact (mem p hp).1)
    simp only [List.length_map] at this ⊢
    omega
theorem gt_fall_up (h : gt_Tab T l) (ht : t.Sublist (gt_seg T l 0 10)) (g : kn_Good (· < ·) k t) : t.length ≤ gt_sum (fun r => min (l r) k) 10 := by
  rw [gt_cells_word] at ht
  obtain ⟨l', hl', rfl⟩ := List.sublist_map_iff.mp ht
  have mem : ∀ p ∈ l', p.1 < 10 ∧ p.2 < l p.1 := fun p hp => gt_cells_mem.mp (hl'.subset hp)
  have ord : l'.Pairwise gt_ord := (gt_cells_ord l 10).sublist hl'
  rw [List.length_map, gt_parts (g := fun p => p.1) (n := 10) (fun p hp => (mem p hp).1)]
  refine gt_sum_le 10 ?_
  intro r hr
  show (l'.filter (fun p => decide (p.1 = r))).length ≤ min (l r) k
  have hf : (l'.filter (fun p => decide (p.1 = r))).Sublist l' := List.filter_sublist
  have hc : ∀ p ∈ l'.filter (fun p => decide (p.1 = r)), p.1 = r := fun p hp => of_decide_eq_true (List.mem_filter.mp hp).2
  generalize l'.filter (fun p => decide (p.1 = r)) = f at hf hc
  have fo : f.Pairwise (fun p q => p.2 < q.2) := (ord.sublist hf).imp_of_mem (fun {p q} hp hq ho => by
    have e1 := hc p hp
    have e2 := hc q hq
    rcases ho with ho | ho
    · omega
    · exact ho.2)
  have fk : f.length ≤ k := by
    have := g (f.map (fun p => T p.1 p.2)) (hf.map _) (by
      rw [List.pairwise_map]
      refine fo.imp_of_mem (fun {p q} hp hq ho => ?_)
      have e1 := hc p hp
      have e2 := hc q hq
      have m1 := mem q (hf.subset hq)
      rw [e1, e2]
      rw [e2] at m1
      exact h.1 r hr p.2 q.2 ho m1.2)
    simpa using this
  have fn : (f.map (fun p => p.2)).Nodup := by
    unfold List.Nodup
    rw [List.pairwise_map]
    exact fo.imp (fun ho => by omega)
  have := gt_len_lt (n := l r) fn (fun a ha => by
    obtain ⟨p, hp, rfl⟩ := List.mem_map.mp ha
    have m1 := mem p (hf.subset hp)
    rw [hc p hp] at m1
    exact m1.2)
  simp only [List.length_map] at this
  omega
theorem gt_fall_lo (h : gt_Tab T l) (k : Nat) : ∃ t : List Nat, t.Sublist (gt_seg T l 0 10) ∧ kn_Good (· < ·) k t ∧ t.length = gt_sum (fun r => min (l r) k) 10 := by
  refine ⟨(gt_cells (fun r => min (l r) k) 10).map (fun p => T p.1 p.2), ?_, ?_, by rw [List.length_map, gt_cells_len]⟩
  · rw [gt_cells_word]
    exact (gt_cells_sub (fun r => Nat.min_le_left _ _) 10).map _
  · intro s hs hp
    obtain ⟨f, hf, rfl⟩ := List.sublist_map_iff.mp hs
    have mem : ∀ p ∈ f, p.1 < 10 ∧ p.2 < min (l p.1) k := fun p hp => gt_cells_mem.mp (hf.subset hp)
    have fo : f.Pairwise (fun p q => p.2 < q.2) := (((gt_cells_ord _ 10).sublist hf).and (List.pairwise_map.mp hp)).imp_of_mem (fun {p q} hp hq ho => by
      rcases ho.1 with h1 | ⟨h1, h2⟩
      · apply Classical.byContradiction
        intro hn
        have h3 := ho.2
        have m1 := mem q hq
        have m2 := mem p hp
        have h4 := gt_lmono h (Nat.le_of_lt h1) m2.1
        have h5 := gt_cmono h (c := p.2) h1 m2.1 (by omega)
        by_cases e : q.2 = p.2
        · rw [e] at h3
          omega
        · have h6 := h.1 q.1 m1.1 q.2 p.2 (by omega) (by omega)
          omega
      · exact h2)
    have fn : (f.map (fun p => p.2)).Nodup := by
      unfold List.Nodup
      rw [List.pairwise_map]
      exact fo.imp (fun ho => by omega)
    have := gt_len_lt (n := k) fn (fun a ha => by
      obtain ⟨p, hp, rfl⟩ := List.mem_map.mp ha
      have := (mem p hp).2
      omega)
    simp only [List.length_map] at this ⊢
    omega
end
/-- how many i below n satisfy p -/
def gt_cnt (p : Nat → Bool) : Nat → Nat
  | 0 => 0
  | n + 1 => gt_cnt p n + (if p n = true then 1 else 0)
theorem gt_cnt_le (p : Nat → Bool) : ∀ n, gt_cnt p n ≤ n := by
  intro n
  induction n with
  | zero => exact Nat.le_refl _
  | succ n ih => rw [gt_cnt]; split <;> omega
theorem gt_cnt_all {p : Nat → Bool} : ∀ n, (∀ i, i < n → p i = true) → gt_cnt p n = n := by
  intro n
  induction n with
  | zero => intro _; rfl
  | succ n ih => intro h; rw [gt_cnt, ih (fun i hi => h i (by omega)), if_pos (h n (by omega))]
theorem gt_cnt_cong {p q : Nat → Bool} : ∀ n, (∀ i, i < n → p i = q i) → gt_cnt p n = gt_cnt q n := by
  intro n
  induction n with
  | zero => intro _; rfl
  | succ n ih => intro h; rw [gt_cnt, gt_cnt, ih (fun i hi => h i (by omega)), h n (by omega)]
theorem gt_cnt_range {p : Nat → Bool} : ∀ n, (∀ c c', c < c' → c' < n → p c' = true → p c = true) → (List.range n).filter p = List.range (gt_cnt p n) := by
  intro n
  induction n with
  | zero => intro _; rfl
  | succ n ih =>
    intro h
    rw [List.range_succ, List.filter_append, ih (fun c c' h1 h2 => h c c' h1 (by omega)), gt_cnt]
    by_cases e : p n = true
    · rw [gt_cnt_all n (fun i hi => h i n hi (by omega) e), if_pos e, List.range_succ]
      congr 1
      simp [List.filter_cons, e]
    · rw [if_neg e]
      simp [List.filter_cons, e]
/-- the row lengths of what is below b -/
def gt_mu (T : Nat → Nat → Nat) (l : Nat → Nat) (b : Nat) (r : Nat) : Nat := gt_cnt (fun c => decide (T r c < b)) (l r)
theorem gt_mu_range {T : Nat → Nat → Nat} {l : Nat → Nat} (h : gt_Tab T l) (b : Nat) {r : Nat} (hr : r < 10) : (List.range (l r)).filter (fun c => decide (T r c < b)) = List.range (gt_mu T l b r) :=
  gt_cnt_range (l r) (fun c c' h1 h2 h3 => by
    have h4 := h.1 r hr c c' h1 h2
    have h5 : T r c' < b := of_decide_eq_true h3
    exact decide_eq_true (by omega))
theorem gt_mu_iff {T : Nat → Nat → Nat} {l : Nat → Nat} (h : gt_Tab T l) (b : Nat) {r c : Nat} (hr : r < 10) : c < gt_mu T l b r ↔ c < l r ∧ T r c < b := by
  rw [← List.mem_range, ← gt_mu_range h b hr, List.mem_filter, List.mem_range, decide_eq_true_iff]
theorem gt_mu_tab {T : Nat → Nat → Nat} {l : Nat → Nat} (h : gt_Tab T l) (b : Nat) : gt_Tab T (gt_mu T l b) := by
  refine ⟨?_, ?_, ?_⟩
  · intro r hr c c' h1 h2
    exact h.1 r hr c c' h1 ((gt_mu_iff h b hr).mp h2).1
  · intro r hr
    apply Classical.byContradiction
    intro hn
    have h1 := (gt_mu_iff h b hr (c := gt_mu T l b r)).mp (by omega)
    have h2 := h.2.1 r hr
    have h3 := h.2.2 r _ hr h1.1
    have h4 := (gt_mu_iff h b (by omega : r < 10) (c := gt_mu T l b r)).mpr ⟨by omega, by omega⟩
    omega
  · intro r c hr hc
    exact h.2.2 r c hr ((gt_mu_iff h b hr).mp hc).1
theorem gt_mu_word {T : Nat → Nat → Nat} {l : Nat → Nat} (h : gt_Tab T l) (b : Nat) : ∀ n, n ≤ 10 → kn_lo b (gt_seg T l 0 n) = gt_seg T (gt_mu T l b) 0 n := by
  intro n
  induction n with
  | zero => intro _; rfl
  | succ n ih =>
    intro hn
    rw [gt_seg, gt_seg, kn_lo_app, ih (by omega), Nat.zero_add]
    congr 1
    unfold gt_row kn_lo
    rw [List.filter_map, ← gt_mu_range h b (by omega : n < 10)]
    rfl
section
variable {W : List Nat} {T : Nat → Nat → Nat} {l : Nat → Nat}
theorem gt_g_up (h : gt_Done W T l) (b k : Nat) {t : List Nat} (ht : t.Sublist (kn_lo b W)) (g : kn_Good (· > ·) k t) : t.length ≤ gt_sum (gt_mu T l b) (min k 10) := by
  obtain ⟨t', h1, h2, h3⟩ := (h.2.2.2 b).1 [] [] k t (by simpa using ht) g
  rw [gt_mu_word h.1 b 10 (Nat.le_refl _)] at h1
  rw [← h3]
  refine gt_rise_up (gt_mu_tab h.1 b) (fun r hr => ?_) (by simpa using h1) h2
  have a1 := gt_cnt_le (fun c => decide (T r c < b)) (l r)
  have a2 := gt_Done_len h hr
  unfold gt_mu
  omega
theorem gt_g_lo (h : gt_Done W T l) (b k : Nat) : ∃ t : List Nat, t.Sublist (kn_lo b W) ∧ kn_Good (· > ·) k t ∧ t.length = gt_sum (gt_mu T l b) (min k 10) := by
  obtain ⟨t, h1, h2, h3⟩ := gt_rise_lo (gt_mu_tab h.1 b) k
  rw [← gt_mu_word h.1 b 10 (Nat.le_refl _)] at h1
  obtain ⟨t', k1, k2, k3⟩ := (h.2.2.2 b).2.1 [] [] k t (by simpa using h1) h2
  exact ⟨t', by simpa using k1, k2, k3.trans h3⟩
theorem gt_lo_all (h : gt_Done W T l) : kn_lo 100 W = W :=
  List.filter_eq_self.mpr (fun p hp => decide_eq_true (h.2.1.2.2 p hp))
theorem gt_mu_all (h : gt_Done W T l) {r : Nat} (hr : r < 10) : gt_mu T l 100 r = l r :=
  gt_cnt_all _ (fun _ hi => decide_eq_true (gt_Done_val h hr hi))
theorem gt_mu_sum (h : gt_Done W T l) (k : Nat) : gt_sum (gt_mu T l 100) (min k 10) = gt_sum l (min k 10) :=
  gt_sum_cong _ (fun _ hi => gt_mu_all h (by omega))
theorem gt_r_up (h : gt_Done W T l) (k : Nat) {t : List Nat} (ht : t.Sublist W) (g : kn_Good (· > ·) k t) : t.length ≤ gt_sum l (min k 10) := by
  rw [← gt_mu_sum h]
  exact gt_g_up h 100 k (by rw [gt_lo_all h]; exact ht) g
theorem gt_r_lo (h : gt_Done W T l) (k : Nat) : ∃ t : List Nat, t.Sublist W ∧ kn_Good (· > ·) k t ∧ t.length = gt_sum l (min k 10) := by
  have := gt_g_lo h 100 k
  rw [gt_lo_all h, gt_mu_sum h] at this
  exact this
theorem gt_seg_lo (h : gt_Done W T l) : kn_lo 100 (gt_seg T l 0 10) = gt_seg T l 0 10 := by
  apply List.filter_eq_self.mpr
  intro p hp
  exact decide_eq_true (h.2.1.2.2 p (h.2.2.1.mem_iff.mpr hp))
theorem gt_f_up (h : gt_Done W T l) (k : Nat) {t : List Nat} (ht : t.Sublist W) (g : kn_Good (· < ·) k t) : t.length ≤ gt_sum (fun r => min (l r) k) 10 := by
  have h0 := (h.2.2.2 100).2.2.1
  rw [gt_lo_all h, gt_seg_lo h] at h0
  obtain ⟨t', h1, h2, h3⟩ := h0 [] [] k t (by simpa using ht) g
  rw [← h3]
  exact gt_fall_up h.1 (by simpa using h1) h2
theorem gt_f_lo (h : gt_Done W T l) (k : Nat) : ∃ t : List Nat, t.Sublist W ∧ kn_Good (· < ·) k t ∧ t.length = gt_sum (fun r => min (l r) k) 10 := by
  have h0 := (h.2.2.2 100).2.2.2
  rw [gt_lo_all h, gt_seg_lo h] at h0
  obtain ⟨t, h1, h2, h3⟩ := gt_fall_lo h.1 k
  obtain ⟨t', k1, k2, k3⟩ := h0 [] [] k t (by simpa using h1) h2
  exact ⟨t', by simpa using k1, k2, k3.trans h3⟩
end
end
section
/-- the places of a mask below n, and what stands there -/
def bm_idx (n p : Nat) : List Nat := (List.range n).filter (fun i => p.testBit i)
def bm_sel (f : Nat → Nat) (n p : Nat) : List Nat := (bm_idx n p).map f
theorem bm_idx_t {n p : Nat} (h : p.testBit n = true) : bm_idx (n + 1) p = bm_idx n p ++ [n] := by
  unfold bm_idx
  rw [List.range_succ, List.filter_append]
  congr 1
  simp [List.filter_cons, h]
theorem bm_idx_f {n p : Nat} (h : p.testBit n = false) : bm_idx (n + 1) p = bm_idx n p := by
  unfold bm_idx
  rw [List.range_succ, List.filter_append]
  simp [List.filter_cons, h]
theorem bm_sel_t {f : Nat → Nat} {n p : Nat} (h : p.testBit n = true) : bm_sel f (n + 1) p = bm_sel f n p ++ [f n] := by
  unfold bm_sel
  rw [bm_idx_t h, List.map_append]
  rfl
theorem bm_sel_f {f : Nat → Nat} {n p : Nat} (h : p.testBit n = false) : bm_sel f (n + 1) p = bm_sel f n p := by
  unfold bm_sel
  rw [bm_idx_f h]
theorem bm_idx_cong {n p p' : Nat} (h : ∀ i, i < n → p.testBit i = p'.testBit i) : bm_idx n p = bm_idx n p' :=
  List.filter_congr (fun i hi => h i (List.mem_range.mp hi))
theorem bm_idx_more {n p : Nat} (h : p < 2 ^ n) : ∀ d, bm_idx (n + d) p = bm_idx n p := by
  intro d
  induction d with
  | zero => rfl
  | succ d ih =>
    have h1 : p < 2 ^ (n + d) := Nat.lt_of_lt_of_le h (Nat.pow_le_pow_right (by omega) (by omega))
    rw [← Nat.add_assoc, bm_idx_f (Nat.testBit_lt_two_pow h1), ih]
theorem bm_len (n p : Nat) : (bm_idx n p).length = gt_cnt (fun i => p.testBit i) n := by
  induction n with
  | zero => rfl
  | succ n ih =>
    rw [gt_cnt, ← ih]
    cases hp : p.testBit n with
    | false => rw [bm_idx_f hp]; simp
    | true => rw [bm_idx_t hp]; simp
theorem bm_len_le (n p : Nat) : (bm_idx n p).length ≤ n := by
  rw [bm_len]
  exact gt_cnt_le _ n
/-- p lies within q -/
def bm_in (p q : Nat) : Prop := ∀ i, p.testBit i = true → q.testBit i = true
theorem bm_and {p q : Nat} : p &&& q = p ↔ bm_in p q := by
  constructor
  · intro h i hi
    have h1 : (p &&& q).testBit i = true := by rw [h]; exact hi
    rw [Nat.testBit_and, Bool.and_eq_true] at h1
    exact h1.2
  · intro h
    apply Nat.eq_of_testBit_eq
    intro i
    rw [Nat.testBit_and]
    cases hp : p.testBit i with
    | false => rfl
    | true => rw [h i hp]; rfl
theorem bm_sub {p q : Nat} (h : bm_in p q) : ∀ n, (bm_idx n p).Sublist (bm_idx n q) := by
  intro n
  induction n with
  | zero => exact List.Sublist.refl _
  | succ n ih =>
    cases hp : p.testBit n with
    | false =>
      rw [bm_idx_f hp]
      cases hq : q.testBit n with
      | false => rw [bm_idx_f hq]; exact ih
      | true => rw [bm_idx_t hq]; exact ih.trans (List.sublist_append_left _ _)
    | true =>
      rw [bm_idx_t hp, bm_idx_t (h n hp)]
      exact ih.append (List.Sublist.refl _)
theorem bm_ex {q : Nat} : ∀ (n : Nat) (s : List Nat), s.Sublist (bm_idx n q) → ∃ p, p < 2 ^ n ∧ bm_in p q ∧ bm_idx n p = s := by
  intro n
  induction n with
  | zero =>
    intro s h
    have e : s = [] := List.sublist_nil.mp h
    subst e
    exact ⟨0, by decide, fun i hi => by simp at hi, rfl⟩
  | succ n ih =>
    intro s h
    have hp2 : 2 ^ (n + 1) = 2 ^ n + 2 ^ n := by rw [Nat.pow_succ]; omega
    cases hq : q.testBit n with
    | false =>
      rw [bm_idx_f hq] at h
      obtain ⟨p, h1, h2, h3⟩ := ih s h
      exact ⟨p, by omega, h2, by rw [bm_idx_f (Nat.testBit_lt_two_pow h1)]; exact h3⟩
    | true =>
      rw [bm_idx_t hq] at h
      obtain ⟨s1, s2, rfl, a1, a2⟩ := List.sublist_append_iff.mp h
      obtain ⟨p, h1, h2, h3⟩ := ih s1 a1
      have hpn : p.testBit n = false := Nat.testBit_lt_two_pow h1
      rcases kn_s1 a2 with rfl | rfl
      · exact ⟨p, by omega, h2, by rw [bm_idx_f hpn, List.append_nil]; exact h3⟩
      · have hlo : ∀ i, i < n → (2 ^ n + p).testBit i = p.testBit i := fun i hi => Nat.testBit_two_pow_add_gt hi p
        have hn : (2 ^ n + p).testBit n = true := by rw [Nat.testBit_two_pow_add_eq, hpn]; rfl
        refine ⟨2 ^ n + p, by omega, ?_, ?_⟩
        · intro i hi
          by_cases c1 : i < n
          · rw [hlo i c1] at hi
            exact h2 i hi
          · by_cases c2 : i = n
            · subst c2; exact hq
            · have h4 : 2 ^ n + p < 2 ^ i := Nat.lt_of_lt_of_le (by omega : 2 ^ n + p < 2 ^ (n + 1)) (Nat.pow_le_pow_right (by omega) (by omega))
              rw [Nat.testBit_lt_two_pow h4] at hi
              exact absurd hi (by decide)
        · rw [bm_idx_t hn, bm_idx_cong hlo, h3]
theorem bm_idx_all {n c : Nat} (h : c ≤ n) : bm_idx n (2 ^ c - 1) = List.range c := by
  obtain ⟨d, rfl⟩ := Nat.le.dest h
  clear h
  induction d with
  | zero =>
    apply List.filter_eq_self.mpr
    intro i hi
    rw [Nat.testBit_two_pow_sub_one]
    exact decide_eq_true (List.mem_range.mp hi)
  | succ d ih =>
    rw [← Nat.add_assoc, bm_idx_f, ih]
    rw [Nat.testBit_two_pow_sub_one]
    exact decide_eq_false (by omega)
theorem bm_sel_all (f : Nat → Nat) {n c : Nat} (h : c ≤ n) : bm_sel f n (2 ^ c - 1) = (List.range c).map f := by
  unfold bm_sel
  rw [bm_idx_all h]
theorem bm_sel_lo {f : Nat → Nat} {n q b : Nat} (h : ∀ i, i < n → q.testBit i = decide (f i < b)) : bm_sel f n q = kn_lo b ((List.range n).map f) := by
  unfold bm_sel kn_lo
  rw [List.filter_map]
  congr 1
  exact List.filter_congr (fun i hi => h i (List.mem_range.mp hi))
/-- the longest chain of t has m members -/
def rn_Is (R : Nat → Nat → Prop) (t : List Nat) (m : Nat) : Prop :=
  (∀ s : List Nat, s.Sublist t → s.Pairwise R → s.length ≤ m) ∧ ∃ s : List Nat, s.Sublist t ∧ s.Pairwise R ∧ s.length = m
/-- the longest chain of t with y behind it has b members -/
def rn_End (R : Nat → Nat → Prop) (t : List Nat) (y b : Nat) : Prop :=
  (∀ s : List Nat, s.Sublist t → (s ++ [y]).Pairwise R → s.length + 1 ≤ b) ∧ ∃ s : List Nat, s.Sublist t ∧ (s ++ [y]).Pairwise R ∧ s.length + 1 = b
section
variable {R : Nat → Nat → Prop} {t : List Nat} {x y b bx m k : Nat}
theorem rn_good (h : rn_Is R t m) : kn_Good R k t ↔ m ≤ k := by
  constructor
  · intro g
    obtain ⟨s, h1, h2, h3⟩ := h.2
    rw [← h3]
    exact g s h1 h2
  · intro hk s h1 h2
    exact Nat.le_trans (h.1 s h1 h2) hk
theorem rn_Is_len (h : rn_Is R t m) : m ≤ t.length := by
  obtain ⟨s, h1, _, h3⟩ := h.2
  rw [← h3]
  exact h1.length_le
theorem rn_End_0 : rn_End R [] y 1 := by
  refine ⟨?_, [], List.Sublist.refl _, by simp, rfl⟩
  intro s hs _
  rw [List.sublist_nil.mp hs]
  simp
theorem rn_End_skip (h : rn_End R t y b) (hn : ¬ R x y) : rn_End R (t ++ [x]) y b := by
  refine ⟨?_, ?_⟩
  · intro s hs hp
    obtain ⟨s1, s2, rfl, a1, a2⟩ := List.sublist_append_iff.mp hs
    rcases kn_s1 a2 with rfl | rfl
    · rw [List.append_nil] at hp ⊢
      exact h.1 s1 a1 hp
    · exact absurd ((List.pairwise_append.mp hp).2.2 x (by simp) y (by simp)) hn
  · obtain ⟨s, h1, h2, h3⟩ := h.2
    exact ⟨s, h1.trans (List.sublist_append_left _ _), h2, h3⟩
theorem rn_End_le (h : rn_End R t y b) (hx : rn_End R t x bx) (hb : bx + 1 ≤ b) : rn_End R (t ++ [x]) y b := by
  refine ⟨?_, ?_⟩
  · intro s hs hp
    obtain ⟨s1, s2, rfl, a1, a2⟩ := List.sublist_append_iff.mp hs
    rcases kn_s1 a2 with rfl | rfl
    · rw [List.append_nil] at hp ⊢
      exact h.1 s1 a1 hp
    · have h1 := hx.1 s1 a1 (List.pairwise_append.mp hp).1
      simp only [List.length_append, List.length_cons, List.length_nil]
      omega
  · obtain ⟨s, h1, h2, h3⟩ := h.2
    exact ⟨s, h1.trans (List.sublist_append_left _ _), h2, h3⟩
theorem rn_End_gt (hT : ∀ a b c, R a b → R b c → R a c) (h : rn_End R t y b) (hx : rn_End R t x bx) (hr : R x y) (hb : b < bx + 1) : rn_End R (t ++ [x]) y (bx + 1) := by
  refine ⟨?_, ?_⟩
  · intro s hs hp
    obtain ⟨s1, s2, rfl, a1, a2⟩ := List.sublist_append_iff.mp hs
    rcases kn_s1 a2 with rfl | rfl
    · rw [List.append_nil] at hp ⊢
      have := h.1 s1 a1 hp
      omega
    · have h1 := hx.1 s1 a1 (List.pairwise_append.mp hp).1
      simp only [List.length_append, List.length_cons, List.length_nil]
      omega
  · obtain ⟨s, h1, h2, h3⟩ := hx.2
    refine ⟨s ++ [x], h1.append (List.Sublist.refl _), ?_, by simp only [List.length_append, List.length_cons, List.length_nil]; omega⟩
    rw [List.pairwise_append]
    refine ⟨h2, by simp, ?_⟩
    intro a ha c hc
    rw [List.mem_singleton.mp hc]
    rcases List.mem_append.mp ha with ha | ha
    · exact hT a x y ((List.pairwise_append.mp h2).2.2 a ha x (by simp)) hr
    · rw [List.mem_singleton.mp ha]
      exact hr
theorem rn_Is_0 : rn_Is R [] 0 := by
  refine ⟨?_, [], List.Sublist.refl _, by simp, rfl⟩
  intro s hs _
  rw [List.sublist_nil.mp hs]
  simp
theorem rn_Is_le (h : rn_Is R t m) (hy : rn_End R t y b) (hb : b ≤ m) : rn_Is R (t ++ [y]) m := by
  refine ⟨?_, ?_⟩
  · intro s hs hp
    obtain ⟨s1, s2, rfl, a1, a2⟩ := List.sublist_append_iff.mp hs
    rcases kn_s1 a2 with rfl | rfl
    · rw [List.append_nil] at hp ⊢
      exact h.1 s1 a1 hp
    · have h1 := hy.1 s1 a1 hp
      simp only [List.length_append, List.length_cons, List.length_nil]
      omega
  · obtain ⟨s, h1, h2, h3⟩ := h.2
    exact ⟨s, h1.trans (List.sublist_append_left _ _), h2, h3⟩
theorem rn_Is_gt (h : rn_Is R t m) (hy : rn_End R t y b) (hb : m < b) : rn_Is R (t ++ [y]) b := by
  refine ⟨?_, ?_⟩
  · intro s hs hp
    obtain ⟨s1, s2, rfl, a1, a2⟩ := List.sublist_append_iff.mp hs
    rcases kn_s1 a2 with rfl | rfl
    · rw [List.append_nil] at hp ⊢
      have := h.1 s1 a1 hp
      omega
    · have h1 := hy.1 s1 a1 hp
      simp only [List.length_append, List.length_cons, List.length_nil]
      omega
  · obtain ⟨s, h1, h2, h3⟩ := hy.2
    exact ⟨s ++ [y], h1.append (List.Sublist.refl _), h2, by simp only [List.length_append, List.length_cons, List.length_nil]; omega⟩
theorem rn_End_bd (h : rn_End R t y b) : 1 ≤ b ∧ b ≤ t.length + 1 := by
  obtain ⟨s, h1, _, h3⟩ := h.2
  have := h1.length_le
  omega
end
/-- M is the greatest size of a part of q, below 2^n, without a chain longer than k -/
def gr_Is (f : Nat → Nat) (n q : Nat) (R : Nat → Nat → Prop) (k M : Nat) : Prop :=
  (∃ p, p < 2 ^ n ∧ bm_in p q ∧ kn_Good R k (bm_sel f n p) ∧ (bm_idx n p).length = M) ∧ ∀ p, p < 2 ^ n → bm_in p q → kn_Good R k (bm_sel f n p) → (bm_idx n p).length ≤ M
theorem gr_eq {f : Nat → Nat} {n q : Nat} {R : Nat → Nat → Prop} {k M N : Nat} (h : gr_Is f n q R k M) (lo : ∃ t : List Nat, t.Sublist (bm_sel f n q) ∧ kn_Good R k t ∧ t.length = N) (up : ∀ t : List Nat, t.Sublist (bm_sel f n q) → kn_Good R k t → t.length ≤ N) : M = N := by
  obtain ⟨⟨p, _, h2, h3, h4⟩, hu⟩ := h
  obtain ⟨t, t1, t2, t3⟩ := lo
  have a1 := up (bm_sel f n p) ((bm_sub h2 n).map f) h3
  obtain ⟨s, s1, rfl⟩ := List.sublist_map_iff.mp t1
  obtain ⟨p', e1, e2, e3⟩ := bm_ex n s s1
  subst e3
  have a2 := hu p' e1 e2 t2
  unfold bm_sel at a1
  rw [List.length_map] at a1 t3
  omega
end
section
/-- the two arrays hold the staircase T with row lengths l -/
def xw_Arr (tab len : Nat → Int32) (T : Nat → Nat → Nat) (l : Nat → Nat) : Prop :=
  (∀ r, r < 10 → len r = nI (l r)) ∧ ∀ r c, r < 10 → c < l r → tab (10 * r + c) = nI (T r c)
theorem xw_ix (r c : Nat) : (10 : Int32) * nI r + nI c = nI (10 * r + c) := by
  rw [show (10 : Int32) = nI 10 from rfl, pk_mul, nI_add]
section
variable {W : List Nat} {T : Nat → Nat → Nat} {l : Nat → Nat} {r m c : Nat} {fc : Int32} {row tab len best ways : Nat → Int32} {post : SX → Prop}
theorem xw_put {tab len : Nat → Int32} (hA : xw_Arr tab len T l) (hl : ∀ q, q < 10 → l q < 10) (hr : r < 10) (hc : c < l r) : xw_Arr (upd tab (10 * r + c) (nI m)) len (gt_put T r c m) l := by
  refine ⟨hA.1, fun q a hq ha => ?_⟩
  have h1 := hl q hq
  have h2 := hl r hr
  by_cases e : q = r ∧ a = c
  · obtain ⟨rfl, rfl⟩ := e
    rw [pk_us, gt_put_s]
  · rw [pk_un (by omega), gt_put, if_neg e]
    exact hA.2 q a hq ha
theorem xw_add {tab len : Nat → Int32} (hA : xw_Arr tab len T l) (hl : ∀ q, q < 10 → l q < 10) (hr : r < 10) : xw_Arr (upd tab (10 * r + l r) (nI m)) (upd len r (nI (l r) + 1)) (gt_put T r (l r) m) (gt_inc l r) := by
  refine ⟨fun q hq => ?_, fun q a hq ha => ?_⟩
  · by_cases e : q = r
    · subst e
      rw [pk_us, gt_inc_s, nI_1]
    · rw [pk_un e, gt_inc_n e]
      exact hA.1 q hq
  · have h1 := hl q hq
    have h2 := hl r hr
    by_cases e : q = r ∧ a = l r
    · obtain ⟨rfl, rfl⟩ := e
      rw [pk_us, gt_put_s]
    · have ha' : a < l q ∧ a < 10 := by
        by_cases e1 : q = r
        · subst e1
          rw [gt_inc_s] at ha
          have : a ≠ l q := fun e2 => e ⟨rfl, e2⟩
          omega
        · rw [gt_inc_n e1] at ha
          omega
      rw [pk_un (by omega), gt_put, if_neg e]
      exact hA.2 q a hq ha'.1
theorem xw_46 {J4 : Int32 → Int32 → (Nat → Int32) → (Nat → Int32) → (Nat → Int32) → (Nat → Int32) → (Nat → Int32) → Prop} (hM : gt_Mid W T l r m) (hA : xw_Arr tab len T l)
    (hpost : ∀ tab' len' T' l', xw_Arr tab' len' T' l' → gt_Done W T' l' → post (fc, row, tab', len', best, ways))
    (hJ : ∀ tab' T' m', xw_Arr tab' len T' l → gt_Mid W T' l (r + 1) m' → J4 (nI m') (nI (r + 1)) row tab' len best ways)
    (hc : c ≤ l r) (hlt : ∀ c', c' < c → T r c' < m) (hge : c < l r → ¬ T r c < m) : wX_insert_46 post J4 (nI m) (nI r) (nI c) fc row tab len best ways := by
  have hr := gt_Mid_lt hM
  have hl := gt_Mid_len hM hr
  have cr : (nI r).toNatClampNeg = r := nI_clamp (by omega)
  have cc : (nI (10 * r + c)).toNatClampNeg = 10 * r + c := nI_clamp (by omega)
  unfold wX_insert_46
  simp only [xw_ix, cr, cc, hA.1 r hr]
  refine ⟨vp_in_nI hr (by omega), pk_eq c (l r) (fun e => ?_) (fun e => ?_)⟩
  · refine br_f (nI_ge (a := c) (b := 10) (by omega) (by omega)) ⟨vp_in_nI (by omega) (by omega), fun a ea => ⟨vp_in_nI hr (by omega), vp_in_nI hr (by omega), fun b eb => ?_⟩⟩
    subst ea eb e
    exact hpost _ _ _ _ (xw_add hA (fun q hq => gt_Mid_len hM hq) hr) (gt_end hM hlt)
  · have hc' : c < l r := by omega
    refine ⟨vp_in_nI (by omega) (by omega), fun x5 e5 => ⟨vp_in_nI (by omega) (by omega), fun a ea x3 e3 => ?_⟩⟩
    subst e5 ea e3
    rw [hA.2 r c hr hc', nI_1]
    exact hJ _ _ _ (xw_put hA (fun q hq => gt_Mid_len hM hq) hr hc') (gt_bmp hM hc' hlt (hge hc'))
theorem xw_13 {J4 : Int32 → Int32 → (Nat → Int32) → (Nat → Int32) → (Nat → Int32) → (Nat → Int32) → (Nat → Int32) → Prop} (hM : gt_Mid W T l r m) (hA : xw_Arr tab len T l)
    (hpost : ∀ tab' len' T' l', xw_Arr tab' len' T' l' → gt_Done W T' l' → post (fc, row, tab', len', best, ways))
    (hJ : ∀ tab' T' m', xw_Arr tab' len T' l → gt_Mid W T' l (r + 1) m' → J4 (nI m') (nI (r + 1)) row tab' len best ways) :
    ∀ d c, c + d = l r → (∀ c', c' < c → T r c' < m) → wX_insert_13 post J4 (nI m) (nI r) fc row tab len best ways (d + 1) (nI c) := by
  have hr := gt_Mid_lt hM
  have hl := gt_Mid_len hM hr
  have hv := gt_Mid_val hM
  have cr : (nI r).toNatClampNeg = r := nI_clamp (by omega)
  intro d
  induction d with
  | zero =>
    intro c hc hlt
    unfold wX_insert_13
    simp only [xw_ix, cr, hA.1 r hr]
    exact ⟨vp_in_nI hr (by omega), br_t (nI_le (by omega) (by omega)) (xw_46 hM hA hpost hJ (by omega) hlt (fun h => by omega))⟩
  | succ d ih =>
    intro c hc hlt
    have hc' : c < l r := by omega
    have cc : (nI (10 * r + c)).toNatClampNeg = 10 * r + c := nI_clamp (by omega)
    have hvv := hv.2 r c hr hc'
    unfold wX_insert_13
    simp only [xw_ix, cr, cc, hA.1 r hr, hA.2 r c hr hc']
    refine ⟨vp_in_nI hr (by omega), br_f (nI_ge hc' (by omega)) ⟨vp_in_nI (by omega) (by omega), pk_le m (T r c) (fun h => ?_) (fun h => ?_) rfl rfl (by omega) (by omega)⟩⟩
    · exact xw_46 hM hA hpost hJ (by omega) hlt (fun _ => by omega)
    · intro x e
      subst e
      rw [nI_1]
      refine ih (c + 1) (by omega) (fun c' h' => ?_)
      by_cases e : c' = c
      · subst e; exact h
      · exact hlt c' (by omega)
theorem xw_4 (hpost : ∀ tab' len' T' l', xw_Arr tab' len' T' l' → gt_Done W T' l' → post (fc, row, tab', len', best, ways)) :
    ∀ d r m T tab, r + d = 10 → xw_Arr tab len T l → gt_Mid W T l r m → wX_insert_4 post fc (d + 1) (nI m) (nI r) row tab len best ways := by
  intro d
  induction d with
  | zero => intro r m T tab hr _ hM; have := gt_Mid_lt hM; omega
  | succ d ih =>
    intro r m T tab hr hA hM
    unfold wX_insert_4
    exact br_f (nI_ge (a := r) (b := 10) (by omega) (by omega)) ⟨l r + 1, xw_13 hM hA hpost (fun tab' T' m' a b => ih (r + 1) m' T' tab' (by omega) a b) (l r) 0 (by omega) (fun c' h => by omega)⟩
theorem xw_insert (hpost : ∀ tab' len' T' l', xw_Arr tab' len' T' l' → gt_Done (W ++ [m]) T' l' → post (fc, row, tab', len', best, ways)) (hA : xw_Arr tab len T l) (hD : gt_Done W T l) (hW : (W ++ [m]).Nodup ∧ (W ++ [m]).length ≤ 10 ∧ ∀ w ∈ W ++ [m], w < 100) : wpX_insert post (fc, row, tab, len, best, ways) (nI m) :=
  ⟨11, xw_4 hpost 10 0 m T tab rfl hA (gt_start hD hW)⟩
end
/-- the numbers of the row: f j < 100, the first c of them different -/
def xw_Row (f : Nat → Nat) (c : Nat) : Prop := c ≤ 10 ∧ (∀ j, f j < 100) ∧ ∀ i j, i < j → j < c → f i ≠ f j
theorem xw_Row_le {f : Nat → Nat} {c p : Nat} (h : xw_Row f c) (hp : p ≤ c) : xw_Row f p := ⟨Nat.le_trans hp h.1, h.2.1, fun i j a b => h.2.2 i j a (by omega)⟩
theorem xw_Row_W {f : Nat → Nat} {c : Nat} (h : xw_Row f c) : ((List.range c).map f).Nodup ∧ ((List.range c).map f).length ≤ 10 ∧ ∀ w ∈ (List.range c).map f, w < 100 := by
  refine ⟨?_, by simpa using h.1, ?_⟩
  · unfold List.Nodup
    rw [List.pairwise_map]
    refine List.pairwise_lt_range.imp_of_mem ?_
    intro a b ha hb hab
    exact h.2.2 a b hab (List.mem_range.mp hb)
  · intro w hw
    obtain ⟨i, _, rfl⟩ := List.mem_map.mp hw
    exact h.2.1 i
theorem xw_nil (T : Nat → Nat → Nat) : gt_Done [] T (fun _ => 0) :=
  ⟨⟨fun _ _ _ _ _ h => absurd h (Nat.not_lt_zero _), fun _ _ => Nat.le_refl _, fun _ _ _ h => absurd h (Nat.not_lt_zero _)⟩, ⟨List.Pairwise.nil, Nat.zero_le _, fun _ h => absurd h (List.not_mem_nil)⟩, kn_rfl _⟩
section
variable {f : Nat → Nat} {P : Nat} {fc : Int32} {best ways : Nat → Int32} {post : SX → Prop}
theorem xw_23 (hR : xw_Row f P) (hpost : ∀ tab' len' T' l', xw_Arr tab' len' T' l' → gt_Done ((List.range P).map f) T' l' → post (fc, (fun j => nI (f j)), tab', len', best, ways)) :
    ∀ d i T l tab len, i + d = P → xw_Arr tab len T l → gt_Done ((List.range i).map f) T l → wX_insertAll_23 post (nI P) 99 (d + 1) (nI i) fc (fun j => nI (f j)) tab len best ways := by
  have hP := hR.1
  intro d
  induction d with
  | zero =>
    intro i T l tab len hi hA hD
    have e : i = P := by omega
    subst e
    unfold wX_insertAll_23
    exact br_t (nI_le (by omega) (by omega)) (hpost _ _ _ _ hA hD)
  | succ d ih =>
    intro i T l tab len hi hA hD
    have hf := hR.2.1 i
    have ci : (nI i).toNatClampNeg = i := nI_clamp (by omega)
    unfold wX_insertAll_23
    simp only [ci]
    refine br_f (nI_ge (by omega) (by omega)) ⟨vp_in_nI (by omega) (by omega), br_f (nI_nlt (a := 99) (b := f i) (by omega) (by omega)) ⟨vp_in_nI (by omega) (by omega), ?_⟩⟩
    have eW : (List.range i).map f ++ [f i] = (List.range (i + 1)).map f := by rw [List.range_succ, List.map_append]; rfl
    refine xw_insert (W := (List.range i).map f) (m := f i) (T := T) (l := l) ?_ hA hD ?_
    · intro tab' len' T' l' hA' hD' x ex
      subst ex
      rw [nI_1]
      rw [eW] at hD'
      exact ih (i + 1) T' l' tab' len' (by omega) hA' hD'
    · rw [eW]
      exact xw_Row_W (xw_Row_le hR (by omega))
theorem xw_2 (hR : xw_Row f P) {tab : Nat → Int32} (hpost : ∀ tab' len' T' l', xw_Arr tab' len' T' l' → gt_Done ((List.range P).map f) T' l' → post (fc, (fun j => nI (f j)), tab', len', best, ways)) :
    ∀ d r len, r + d = 10 → (∀ q, q < r → len q = nI 0) → wX_insertAll_2 post (nI P) 99 fc (d + 1) (nI r) (fun j => nI (f j)) tab len best ways := by
  intro d
  induction d with
  | zero =>
    intro r len hr hl
    have e : r = 10 := by omega
    subst e
    unfold wX_insertAll_2
    exact br_t (nI_le (a := 10) (b := 10) (by omega) (by omega)) ⟨P + 1, xw_23 hR hpost P 0 (fun _ _ => 0) (fun _ => 0) tab len (by omega) ⟨hl, fun _ _ _ h => absurd h (Nat.not_lt_zero _)⟩ (xw_nil _)⟩
  | succ d ih =>
    intro r len hr hl
    have cr : (nI r).toNatClampNeg = r := nI_clamp (by omega)
    unfold wX_insertAll_2
    simp only [cr]
    refine br_f (nI_ge (a := r) (b := 10) (by omega) (by omega)) ⟨vp_in_nI (by omega) (by omega), fun a ea x ex => ?_⟩
    subst ea ex
    rw [nI_1]
    refine ih (r + 1) _ (by omega) (fun q hq => ?_)
    by_cases e : q = r
    · subst e; exact pk_us
    · rw [pk_un e]; exact hl q (by omega)
theorem xw_insertAll (hR : xw_Row f P) {tab len : Nat → Int32} (hpost : ∀ tab' len' T' l', xw_Arr tab' len' T' l' → gt_Done ((List.range P).map f) T' l' → post (fc, (fun j => nI (f j)), tab', len', best, ways)) : wpX_insertAll post (fc, (fun j => nI (f j)), tab, len, best, ways) (nI P) 99 :=
  ⟨11, xw_2 hR hpost 10 0 len rfl (fun _ h => absurd h (Nat.not_lt_zero _))⟩
end
end
section
theorem xr_bnd (x : Int32) : ∃ b : Nat, ∀ v, v < 100 → (x < nI v ↔ b ≤ v) := by
  by_cases h : x < 0
  · refine ⟨0, fun v hv => ⟨fun _ => Nat.zero_le _, fun _ => ?_⟩⟩
    exact Int32.lt_of_lt_of_le h (nI_pos' (by omega))
  · obtain ⟨j, hj, rfl⟩ := nI_of h
    refine ⟨j + 1, fun v hv => ?_⟩
    rw [nI_ltI hj (by omega)]
    exact Iff.rfl
theorem xr_cnt {l : Nat → Nat} {r : Nat} (h1 : ∀ q, q < r → 0 < l q) (h2 : ∀ q, r ≤ q → q < 10 → l q = 0) (hr : r ≤ 10) : gt_sum (fun q => min (l q) 1) 10 = r := by
  have e := gt_sum_cong (f := fun q => min (l q) 1) (g := fun c => if c < r then 1 else 0) 10 (fun i hi => by
    show min (l i) 1 = if i < r then 1 else 0
    by_cases c : i < r
    · have := h1 i c
      rw [if_pos c]; omega
    · have := h2 i (by omega) hi
      rw [if_neg c]; omega)
  rw [e, gt_ind]
  omega
section
variable {T : Nat → Nat → Nat} {l : Nat → Nat} {K : Nat} {fc : Int32} {row tab len best ways : Nat → Int32}
theorem xr_first {post : Int32 → Prop} (hK : K < 2 ^ 31) (hA : xw_Arr tab len T l) (hpost : post (nI (gt_sum l (min K 10)))) :
    ∀ d r, r + d = 10 → r ≤ K → wX_firstRows_4 post (nI K) fc row tab len best ways (d + 1) (nI (gt_sum l r)) (nI r) := by
  intro d
  induction d with
  | zero =>
    intro r hr hk
    have e : r = 10 := by omega
    subst e
    have e2 : min K 10 = 10 := by omega
    rw [e2] at hpost
    unfold wX_firstRows_4
    exact br_t (nI_le (a := 10) (b := 10) (by omega) (by omega)) hpost
  | succ d ih =>
    intro r hr hk
    have cr : (nI r).toNatClampNeg = r := nI_clamp (by omega)
    unfold wX_firstRows_4
    simp only [cr, hA.1 r (by omega)]
    refine br_f (nI_ge (a := r) (b := 10) (by omega) (by omega)) (pk_le K r (fun h => ?_) (fun h => ⟨vp_in_nI (by omega) (by omega), fun x ex y ey => ?_⟩))
    · have e2 : min K 10 = r := by omega
      rw [e2] at hpost
      exact hpost
    · subst ex ey
      rw [nI_add, nI_1]
      exact ih (r + 1) (by omega) (by omega)
theorem xr_firstRows {post : Int32 → Prop} (hK : K < 2 ^ 31) (hA : xw_Arr tab len T l) (hpost : post (nI (gt_sum l (min K 10)))) : wpX_firstRows post (fc, row, tab, len, best, ways) (nI K) :=
  ⟨11, xr_first hK hA hpost 10 0 rfl (Nat.zero_le _)⟩
theorem xr_fall {post : Int32 → SX → Prop} (hK : K < 2 ^ 31) (hA : xw_Arr tab len T l) (hl : ∀ q, q < 10 → l q ≤ 10) (hpost : post (nI (gt_sum (fun q => min (l q) K) 10)) (fc, row, tab, len, best, ways)) :
    ∀ d r, r + d = 10 → wX_fall_20 post (nI K) fc row tab len best ways (d + 1) (nI (gt_sum (fun q => min (l q) K) r)) (nI r) := by
  intro d
  induction d with
  | zero =>
    intro r hr
    have e : r = 10 := by omega
    subst e
    unfold wX_fall_20
    exact br_t (nI_le (a := 10) (b := 10) (by omega) (by omega)) hpost
  | succ d ih =>
    intro r hr
    have cr : (nI r).toNatClampNeg = r := nI_clamp (by omega)
    have hlr := hl r (by omega)
    have hs : gt_sum (fun q => min (l q) K) (r + 1) = gt_sum (fun q => min (l q) K) r + min (l r) K := rfl
    have h1 := ih (r + 1) (by omega)
    rw [hs] at h1
    unfold wX_fall_20
    simp only [cr, hA.1 r (by omega)]
    refine br_f (nI_ge (a := r) (b := 10) (by omega) (by omega)) ⟨vp_in_nI (by omega) (by omega), pk_le K (l r) (fun h x ex y ey => ?_) (fun h => ⟨vp_in_nI (by omega) (by omega), fun x ex y ey => ?_⟩)⟩
    · subst ex ey
      rw [nI_add, nI_1]
      have e : min (l r) K = K := by omega
      rw [e] at h1
      exact h1
    · subst ex ey
      rw [nI_add, nI_1]
      have e : min (l r) K = l r := by omega
      rw [e] at h1
      exact h1
theorem xr_rises {post : Int32 → SX → Prop} (ht : gt_Tab T l) (hA : xw_Arr tab len T l) (hl : ∀ q, q < 10 → l q ≤ 10) (hpost : post (nI (gt_sum (fun q => min (l q) 1) 10)) (fc, row, tab, len, best, ways)) :
    ∀ d r, r + d = 10 → (∀ q, q < r → 0 < l q) → wX_rises_12 post fc row tab len best ways (d + 1) (nI r) := by
  intro d
  induction d with
  | zero =>
    intro r hr h0
    have e : r = 10 := by omega
    subst e
    rw [xr_cnt h0 (fun q h1 h2 => by omega) (Nat.le_refl _)] at hpost
    unfold wX_rises_12
    exact br_t (nI_le (a := 10) (b := 10) (by omega) (by omega)) hpost
  | succ d ih =>
    intro r hr h0
    have cr : (nI r).toNatClampNeg = r := nI_clamp (by omega)
    have hlr := hl r (by omega)
    unfold wX_rises_12
    simp only [cr, hA.1 r (by omega)]
    refine br_f (nI_ge (a := r) (b := 10) (by omega) (by omega)) ⟨vp_in_nI (by omega) (by omega), pk_le (l r) 0 (fun h => ?_) (fun h x ex => ?_)⟩
    · rw [xr_cnt h0 (fun q h1 h2 => by
        have := gt_lmono ht h1 h2
        omega) (by omega)] at hpost
      exact hpost
    · subst ex
      rw [nI_1]
      refine ih (r + 1) (by omega) (fun q hq => ?_)
      by_cases e : q = r
      · subst e; exact h
      · exact h0 q (by omega)
theorem xr_37 {post : Int32 → SX → Prop} {J : Int32 → Int32 → Prop} {x1 x2 : Int32} {b r s : Nat} (hb : ∀ v, v < 100 → (x1 < nI v ↔ b ≤ v)) (hA : xw_Arr tab len T l) (hr : r < 10) (hl : l r ≤ 10) (hv : ∀ c, c < l r → T r c < 100)
    (hJ : J (nI (s + gt_cnt (fun c => decide (T r c < b)) (l r))) (nI (r + 1))) :
    ∀ d c, c + d = l r → wX_riseUpTo_37 post J x1 x2 (nI r) fc row tab len best ways (d + 1) (nI (s + gt_cnt (fun c => decide (T r c < b)) c)) (nI c) := by
  have cr : (nI r).toNatClampNeg = r := nI_clamp (by omega)
  intro d
  induction d with
  | zero =>
    intro c hc
    have e : c = l r := by omega
    subst e
    unfold wX_riseUpTo_37
    simp only [cr, hA.1 r hr]
    refine ⟨vp_in_nI hr (by omega), br_t (nI_le (Nat.le_refl _) (by omega)) (fun x ex => ?_)⟩
    subst ex
    rw [nI_1]
    exact hJ
  | succ d ih =>
    intro c hc
    have hc' : c < l r := by omega
    have cc : (nI (10 * r + c)).toNatClampNeg = 10 * r + c := nI_clamp (by omega)
    have h1 := ih (c + 1) (by omega)
    rw [gt_cnt] at h1
    unfold wX_riseUpTo_37
    simp only [xw_ix, cr, cc, hA.1 r hr, hA.2 r c hr hc']
    refine ⟨vp_in_nI hr (by omega), br_f (nI_ge hc' (by omega)) ⟨vp_in_nI (by omega) (by omega), ?_⟩⟩
    by_cases h : T r c < b
    · rw [if_pos (decide_eq_true h)] at h1
      refine br_f (fun z => ?_) (fun x ex y ey => ?_)
      · have := (hb _ (hv c hc')).mp z
        omega
      · subst ex ey
        rw [nI_1, nI_1]
        exact h1
    · rw [if_neg (fun z => h (of_decide_eq_true z)), Nat.add_zero] at h1
      refine br_t ((hb _ (hv c hc')).mpr (by omega)) (fun x ex y ey => ?_)
      subst ex ey
      rw [Int32.add_zero, nI_1]
      exact h1
theorem xr_21 {post : Int32 → SX → Prop} {x1 : Int32} {b : Nat} (hK : K < 2 ^ 31) (hb : ∀ v, v < 100 → (x1 < nI v ↔ b ≤ v)) (hA : xw_Arr tab len T l) (hl : ∀ q, q < 10 → l q ≤ 10) (hv : ∀ r c, r < 10 → c < l r → T r c < 100)
    (hpost : post (nI (gt_sum (gt_mu T l b) (min K 10))) (fc, row, tab, len, best, ways)) :
    ∀ d r, r + d = 10 → r ≤ K → wX_riseUpTo_21 post x1 (nI K) fc row tab len best ways (d + 1) (nI (gt_sum (gt_mu T l b) r)) (nI r) := by
  intro d
  induction d with
  | zero =>
    intro r hr hk
    have e : r = 10 := by omega
    subst e
    have e2 : min K 10 = 10 := by omega
    rw [e2] at hpost
    unfold wX_riseUpTo_21
    exact br_t (nI_le (a := 10) (b := 10) (by omega) (by omega)) hpost
  | succ d ih =>
    intro r hr hk
    unfold wX_riseUpTo_21
    refine br_f (nI_ge (a := r) (b := 10) (by omega) (by omega)) (pk_le K r (fun h => ?_) (fun h => ⟨l r + 1, ?_⟩))
    · have e2 : min K 10 = r := by omega
      rw [e2] at hpost
      exact hpost
    · exact xr_37 hb hA (by omega) (hl r (by omega)) (fun c hc => hv r c (by omega) hc) (ih (r + 1) (by omega) (by omega)) (l r) 0 (by omega)
end
end
section
/-- falling chains (true), rising chains (false), and their flag -/
def yw_R : Bool → Nat → Nat → Prop
  | true => fun a b => a > b
  | false => fun a b => a < b
def yw_f : Bool → Int32
  | true => 1
  | false => 0
theorem yw_RT (fl : Bool) : ∀ a b c, yw_R fl a b → yw_R fl b c → yw_R fl a c := by
  cases fl
  · exact kn_ltT
  · exact kn_gtT
theorem yw_sh {p i : Nat} (hp : p < 2 ^ 31) (hi : i < 32) : (nI p >>> (nI i &&& 31)) &&& 1 = nI (p / 2 ^ i % 2) := by
  rw [pk_shrN hp _ i (s_l i hi)]
  have h := Nat.div_le_self p (2 ^ i)
  exact pk_andN (n := p / 2 ^ i) (by omega) (m := 1) 1 (by decide)
theorem yw_tb (p i : Nat) : p / 2 ^ i % 2 = if p.testBit i = true then 1 else 0 := by
  rw [Nat.testBit_eq_decide_div_mod_eq]
  by_cases h : p / 2 ^ i % 2 = 1
  · simp [h]
  · simp [h]
    omega
section
variable {fn : Int32} {row best shape weight ways : Nat → Int32} {p i j n m b bj : Nat}
theorem yw_in {post : Int32 → Prop} (hp : p < 2 ^ 31) (hi : i < 32) (ht : p.testBit i = true → post 1) (hf : p.testBit i = false → post 0) : wpY_in post (fn, row, best, shape, weight, ways) (nI p) (nI i) := by
  unfold wpY_in
  simp only [yw_sh hp hi]
  have hb := yw_tb p i
  cases h : p.testBit i with
  | true =>
    rw [h, if_pos rfl] at hb
    rw [hb]
    exact br_t rfl (ht h)
  | false =>
    rw [h, if_neg (by decide)] at hb
    rw [hb]
    exact br_f (by decide) (hf h)
theorem yw_size4 {post : Int32 → Prop} (hp : p < 2 ^ 31) (hpost : post (nI (gt_cnt (fun i => p.testBit i) 10))) :
    ∀ d i, i + d = 10 → wY_size_4 post (nI p) fn row best shape weight ways (d + 1) (nI (gt_cnt (fun i => p.testBit i) i)) (nI i) := by
  intro d
  induction d with
  | zero =>
    intro i hi
    have e : i = 10 := by omega
    subst e
    unfold wY_size_4
    exact br_t (nI_le (a := 10) (b := 10) (by omega) (by omega)) hpost
  | succ d ih =>
    intro i hi
    have h1 := ih (i + 1) (by omega)
    rw [gt_cnt, ← yw_tb] at h1
    unfold wY_size_4
    simp only [yw_sh hp (by omega : i < 32)]
    refine br_f (nI_ge (a := i) (b := 10) (by omega) (by omega)) (fun x ex y ey => ?_)
    subst ex ey
    rw [nI_add, nI_1]
    exact h1
theorem yw_size {post : Int32 → Prop} (hn : n ≤ 10) (hp : p < 2 ^ n) (hpost : post (nI (bm_idx n p).length)) : wpY_size post (fn, row, best, shape, weight, ways) (nI p) := by
  have h2 : 2 ^ n ≤ 2 ^ 10 := Nat.pow_le_pow_right (by omega) hn
  have e : (bm_idx n p).length = gt_cnt (fun i => p.testBit i) 10 := by
    rw [← bm_len, ← bm_idx_more hp (10 - n)]
    congr 2
    omega
  rw [e] at hpost
  exact ⟨11, yw_size4 (by omega) hpost 10 0 rfl⟩
theorem yw_118 {post : Int32 → SY → Prop} {J5 : Int32 → Int32 → (Nat → Int32) → (Nat → Int32) → (Nat → Int32) → (Nat → Int32) → (Nat → Int32) → Prop} {J46 : Int32 → (Nat → Int32) → (Nat → Int32) → (Nat → Int32) → (Nat → Int32) → (Nat → Int32) → Prop} {x1 x2 x3 x4 : Int32} (h : J46 (nI (j + 1)) row best shape weight ways) : wY_run_118 post J5 J46 x1 x2 x3 x4 (nI j) fn row best shape weight ways := by
  unfold wY_run_118 wY_run_119
  refine br_t rfl (fun x ex => ?_)
  subst ex
  rw [nI_1]
  exact h
theorem yw_114 {post : Int32 → SY → Prop} {J5 : Int32 → Int32 → (Nat → Int32) → (Nat → Int32) → (Nat → Int32) → (Nat → Int32) → (Nat → Int32) → Prop} {J46 : Int32 → (Nat → Int32) → (Nat → Int32) → (Nat → Int32) → (Nat → Int32) → (Nat → Int32) → Prop} {x1 x2 x3 : Int32} (hi : i < 10) (hj : j < 10) (hb : b < 100) (hbj : bj < 100) (ei : best i = nI b) (ej : best j = nI bj) (h1 : bj + 1 ≤ b → J46 (nI (j + 1)) row best shape weight ways) (h2 : b < bj + 1 → J46 (nI (j + 1)) row (upd best i (nI (bj + 1))) shape weight ways) : wY_run_114 post J5 J46 x1 x2 x3 (nI i) (nI j) fn row best shape weight ways := by
  have ci : (nI i).toNatClampNeg = i := nI_clamp (by omega)
  have cj : (nI j).toNatClampNeg = j := nI_clamp (by omega)
  unfold wY_run_114 wY_run_119
  simp only [ci, cj, ei, ej, nI_1]
  refine br_f (by decide) ⟨vp_in_nI hj (by omega), vp_in_nI hi (by omega), pk_le (bj + 1) b (fun h x ex => ?_) (fun h => ⟨vp_in_nI hj (by omega), vp_in_nI hi (by omega), fun a ea x ex => ?_⟩)⟩
  · subst ex
    exact h1 h
  · subst ea ex
    exact h2 h
end
/-- what best holds at the places below i that belong to p -/
def yw_Bst (fl : Bool) (f : Nat → Nat) (p : Nat) (best : Nat → Int32) (i : Nat) : Prop :=
  ∀ j, j < i → p.testBit j = true → ∃ b, best j = nI b ∧ rn_End (yw_R fl) (bm_sel f j p) (f j) b
theorem yw_bd {R : Nat → Nat → Prop} {f : Nat → Nat} {j p y b : Nat} (h : rn_End R (bm_sel f j p) y b) : b ≤ j + 1 := by
  have h1 := (rn_End_bd h).2
  have h2 := bm_len_le j p
  unfold bm_sel at h1
  rw [List.length_map] at h1
  omega
section
variable {fl : Bool} {f : Nat → Nat} {fn : Int32} {shape weight ways : Nat → Int32} {p i n m : Nat}
theorem yw_46t {post : Int32 → SY → Prop} {J5 : Int32 → Int32 → (Nat → Int32) → (Nat → Int32) → (Nat → Int32) → (Nat → Int32) → (Nat → Int32) → Prop} (hp : p < 2 ^ 31) (hi : i < 10) (hf : ∀ j, f j < 100) (hbi : p.testBit i = true) (hm : m ≤ 10)
    (hJ : ∀ best' b', best' i = nI b' → rn_End (yw_R fl) (bm_sel f i p) (f i) b' → yw_Bst fl f p best' i → J5 (nI (max m b')) (nI (i + 1)) (fun j => nI (f j)) best' shape weight ways) :
    ∀ d j b best, j + d = i → best i = nI b → rn_End (yw_R fl) (bm_sel f j p) (f i) b → yw_Bst fl f p best i → wY_run_46 post J5 (nI p) (yw_f fl) (nI m) (nI i) fn (d + 1) (nI j) (fun j => nI (f j)) best shape weight ways := by
  have ci : (nI i).toNatClampNeg = i := nI_clamp (by omega)
  intro d
  induction d with
  | zero =>
    intro j b best hj hb hE hB
    have e : j = i := by omega
    subst e
    have hbd := yw_bd hE
    have h0 := hJ best b hb hE hB
    unfold wY_run_46
    simp only [ci, hb]
    refine br_t (nI_le (Nat.le_refl _) (by omega)) ⟨vp_in_nI hi (by omega), pk_le b m (fun h x ex => ?_) (fun h => ⟨vp_in_nI hi (by omega), fun x ex y ey => ?_⟩)⟩
    · subst ex
      rw [nI_1]
      rw [(by omega : max m b = m)] at h0
      exact h0
    · subst ex ey
      rw [nI_1]
      rw [(by omega : max m b = b)] at h0
      exact h0
  | succ d ih =>
    intro j b best hj hb hE hB
    have hbd := yw_bd hE
    have cj : (nI j).toNatClampNeg = j := nI_clamp (by omega)
    have fi := hf i
    have fj := hf j
    unfold wY_run_46
    simp only [ci, cj]
    refine br_f (nI_ge (by omega) (by omega)) (yw_in hp (by omega) (fun _ => br_f (by decide) (yw_in hp (by omega) (fun hbj => br_f (by decide) ?_) (fun hbj => br_t rfl (yw_118 (ih (j + 1) b best (by omega) hb (by rw [bm_sel_f hbj]; exact hE) hB))))) (fun h => by rw [hbi] at h; exact absurd h (by decide)))
    obtain ⟨bj, ej, hEj⟩ := hB j (by omega) hbj
    have hbdj := yw_bd hEj
    have no : ¬ yw_R fl (f j) (f i) → wY_run_118 post J5 (wY_run_46 post J5 (nI p) (yw_f fl) (nI m) (nI i) fn (d + 1)) (nI p) (yw_f fl) (nI m) (nI i) (nI j) fn (fun j => nI (f j)) best shape weight ways := fun hn => yw_118 (ih (j + 1) b best (by omega) hb (by rw [bm_sel_t hbj]; exact rn_End_skip hE hn) hB)
    have ye : yw_R fl (f j) (f i) → wY_run_114 post J5 (wY_run_46 post J5 (nI p) (yw_f fl) (nI m) (nI i) fn (d + 1)) (nI p) (yw_f fl) (nI m) (nI i) (nI j) fn (fun j => nI (f j)) best shape weight ways := fun hy => by
      refine yw_114 (b := b) (bj := bj) hi (by omega) (by omega) (by omega) hb ej (fun h => ?_) (fun h => ?_)
      · exact ih (j + 1) b best (by omega) hb (by rw [bm_sel_t hbj]; exact rn_End_le hE hEj h) hB
      · refine ih (j + 1) (bj + 1) (upd best i (nI (bj + 1))) (by omega) pk_us (by rw [bm_sel_t hbj]; exact rn_End_gt (yw_RT fl) hE hEj hy h) (fun j' h1 h2 => ?_)
        rw [pk_un (by omega)]
        exact hB j' h1 h2
    cases fl with
    | false => exact br_t rfl ⟨vp_in_nI (by omega) (by omega), vp_in_nI hi (by omega), pk_le (f i) (f j) (fun h => no (fun z => by
        have z' : f j < f i := z
        omega)) (fun h => ye h)⟩
    | true => exact br_f (by decide) ⟨vp_in_nI (by omega) (by omega), vp_in_nI hi (by omega), pk_le (f j) (f i) (fun h => no (fun z => by
        have z' : f i < f j := z
        omega)) (fun h => ye h)⟩
theorem yw_46f {post : Int32 → SY → Prop} {J5 : Int32 → Int32 → (Nat → Int32) → (Nat → Int32) → (Nat → Int32) → (Nat → Int32) → (Nat → Int32) → Prop} {row best : Nat → Int32} {x2 : Int32} (hp : p < 2 ^ 31) (hi : i < 10) (hbi : p.testBit i = false) (hm : m ≤ 10) (hb : best i = nI 0)
    (hJ : J5 (nI m) (nI (i + 1)) row best shape weight ways) :
    ∀ d j, j + d = i → wY_run_46 post J5 (nI p) x2 (nI m) (nI i) fn (d + 1) (nI j) row best shape weight ways := by
  have ci : (nI i).toNatClampNeg = i := nI_clamp (by omega)
  intro d
  induction d with
  | zero =>
    intro j hj
    have e : j = i := by omega
    subst e
    unfold wY_run_46
    simp only [ci, hb]
    refine br_t (nI_le (Nat.le_refl _) (by omega)) ⟨vp_in_nI hi (by omega), br_t (nI_le (Nat.zero_le _) (by omega)) (fun x ex => ?_)⟩
    subst ex
    rw [nI_1]
    exact hJ
  | succ d ih =>
    intro j hj
    unfold wY_run_46
    exact br_f (nI_ge (by omega) (by omega)) (yw_in hp (by omega) (fun h => by rw [hbi] at h; exact absurd h (by decide)) (fun _ => br_t rfl (yw_118 (ih (j + 1) (by omega)))))
theorem yw_5 {post : Int32 → SY → Prop} (hn : n ≤ 10) (hp : p < 2 ^ n) (hf : ∀ j, f j < 100) (hpost : ∀ m best', rn_Is (yw_R fl) (bm_sel f n p) m → post (nI m) (nI n, (fun j => nI (f j)), best', shape, weight, ways)) :
    ∀ d i m best, i + d = n → rn_Is (yw_R fl) (bm_sel f i p) m → yw_Bst fl f p best i → wY_run_5 post (nI p) (yw_f fl) (nI n) (d + 1) (nI m) (nI i) (fun j => nI (f j)) best shape weight ways := by
  have h2 : 2 ^ n ≤ 2 ^ 10 := Nat.pow_le_pow_right (by omega) hn
  have hp31 : p < 2 ^ 31 := by omega
  intro d
  induction d with
  | zero =>
    intro i m best hi hI hB
    have e : i = n := by omega
    subst e
    unfold wY_run_5
    exact br_t (nI_le (Nat.le_refl _) (by omega)) (hpost m best hI)
  | succ d ih =>
    intro i m best hi hI hB
    have hm : m ≤ 10 := by
      have h1 := rn_Is_len hI
      unfold bm_sel at h1
      rw [List.length_map] at h1
      have h3 := bm_len_le i p
      omega
    have ci : (nI i).toNatClampNeg = i := nI_clamp (by omega)
    unfold wY_run_5
    simp only [ci]
    refine br_f (nI_ge (by omega) (by omega)) (br_f (nI_ge (a := i) (b := 10) (by omega) (by omega)) (yw_in hp31 (by omega) (fun hb => br_f (by decide) ⟨vp_in_nI (by omega) (by omega), fun a ea => ⟨i + 1, ?_⟩⟩) (fun hb => br_t rfl ⟨vp_in_nI (by omega) (by omega), fun a ea => ⟨i + 1, ?_⟩⟩)))
    · subst ea
      refine yw_46t hp31 (by omega) hf hb hm (fun best' b' h1 h3 h4 => ?_) i 0 1 _ (by omega) pk_us rn_End_0 (fun j h1 h3 => ?_)
      · refine ih (i + 1) (max m b') best' (by omega) ?_ (fun j h5 h6 => ?_)
        · rw [bm_sel_t hb]
          by_cases c : b' ≤ m
          · rw [(by omega : max m b' = m)]
            exact rn_Is_le hI h3 c
          · rw [(by omega : max m b' = b')]
            exact rn_Is_gt hI h3 (by omega)
        · by_cases e : j = i
          · subst e
            exact ⟨b', h1, h3⟩
          · exact h4 j (by omega) h6
      · rw [pk_un (by omega)]
        exact hB j h1 h3
    · subst ea
      refine yw_46f hp31 (by omega) hb hm pk_us ?_ i 0 (by omega)
      refine ih (i + 1) m _ (by omega) (by rw [bm_sel_f hb]; exact hI) (fun j h5 h6 => ?_)
      by_cases e : j = i
      · subst e
        rw [hb] at h6
        exact absurd h6 (by decide)
      · rw [pk_un e]
        exact hB j (by omega) h6
theorem yw_run {post : Int32 → SY → Prop} {best : Nat → Int32} (hn : n ≤ 10) (hp : p < 2 ^ n) (hf : ∀ j, f j < 100) (hpost : ∀ m best', rn_Is (yw_R fl) (bm_sel f n p) m → post (nI m) (nI n, (fun j => nI (f j)), best', shape, weight, ways)) : wpY_run post (nI n, (fun j => nI (f j)), best, shape, weight, ways) (nI p) (yw_f fl) :=
  ⟨n + 1, yw_5 hn hp hf hpost n 0 0 best (by omega) rn_Is_0 (fun _ h => absurd h (Nat.not_lt_zero _))⟩
theorem yw_1l {n : Nat} (hn : n ≤ 10) : (1 : Int32) <<< (nI n &&& 31) = nI (2 ^ n) := by
  have h2 : 2 ^ n ≤ 2 ^ 10 := Nat.pow_le_pow_right (by omega) hn
  have h := pk_shlN (n := 1) (nI n &&& 31) n (s_l n (by omega)) (by omega)
  rw [Nat.one_mul] at h
  exact h
theorem yw_6 {post : Int32 → SY → Prop} {q K : Nat} (hn : n ≤ 10) (hq : q < 2 ^ 31) (hK : K < 2 ^ 31) (hf : ∀ j, f j < 100) (hpost : ∀ M best', gr_Is f n q (yw_R fl) K M → post (nI M) (nI n, (fun j => nI (f j)), best', shape, weight, ways)) :
    ∀ d p M best, p + d = 2 ^ n → (∃ p', p' < 2 ^ n ∧ bm_in p' q ∧ kn_Good (yw_R fl) K (bm_sel f n p') ∧ (bm_idx n p').length = M) → (∀ p', p' < p → bm_in p' q → kn_Good (yw_R fl) K (bm_sel f n p') → (bm_idx n p').length ≤ M) → wY_greatest_6 post (nI q) (nI K) (yw_f fl) (d + 1) (nI M) (nI p) (nI n) (fun j => nI (f j)) best shape weight ways := by
  have h2 : 2 ^ n ≤ 2 ^ 10 := Nat.pow_le_pow_right (by omega) hn
  intro d
  induction d with
  | zero =>
    intro p M best hp hE hU
    unfold wY_greatest_6
    rw [yw_1l hn]
    refine br_t (nI_le (by omega) (by omega)) (hpost M best ⟨hE, fun p' h => hU p' (by omega)⟩)
  | succ d ih =>
    intro p M best hp hE hU
    have hM : M ≤ 10 := by
      obtain ⟨p', _, _, _, h⟩ := hE
      have h3 := bm_len_le n p'
      omega
    have hpa : p &&& q ≤ p := Nat.and_le_left
    have skip : ∀ best', (bm_in p q → kn_Good (yw_R fl) K (bm_sel f n p) → (bm_idx n p).length ≤ M) → ∀ x, x = nI p + 1 → wY_greatest_6 post (nI q) (nI K) (yw_f fl) (d + 1) (nI M) x (nI n) (fun j => nI (f j)) best' shape weight ways := by
      intro best' hs x ex
      subst ex
      rw [nI_1]
      refine ih (p + 1) M best' (by omega) hE (fun p' h3 h4 h5 => ?_)
      by_cases e : p' = p
      · subst e; exact hs h4 h5
      · exact hU p' (by omega) h4 h5
    have hl := bm_len_le n p
    unfold wY_greatest_6
    rw [yw_1l hn, nx_and]
    refine br_f (nI_ge (by omega) (by omega)) (pk_eq (p &&& q) p (fun e => ?_) (fun e => skip best (fun z => absurd (bm_and.mpr z) e)))
    refine yw_size hn (by omega) ?_
    refine pk_le (bm_idx n p).length M (fun h => skip best (fun _ _ => h)) (fun h => ?_)
    refine yw_run hn (by omega) hf (fun m best' hm => ?_)
    have hml : m ≤ 10 := by
      have h1 := rn_Is_len hm
      unfold bm_sel at h1
      rw [List.length_map] at h1
      omega
    refine pk_lt K m (fun h3 => skip best' (fun _ z => by
      have := (rn_good hm).mp z
      omega)) (fun h3 => ?_)
    refine yw_size hn (by omega) (fun x ex => ?_)
    subst ex
    rw [nI_1]
    refine ih (p + 1) _ best' (by omega) ⟨p, by omega, bm_and.mp e, (rn_good hm).mpr h3, rfl⟩ (fun p' h4 h5 h6 => ?_)
    by_cases e' : p' = p
    · subst e'; exact Nat.le_refl _
    · have := hU p' (by omega) h5 h6
      omega
theorem yw_greatest {post : Int32 → SY → Prop} {best : Nat → Int32} {q K : Nat} (hn : n ≤ 10) (hq : q < 2 ^ 31) (hK : K < 2 ^ 31) (hf : ∀ j, f j < 100) (hpost : ∀ M best', gr_Is f n q (yw_R fl) K M → post (nI M) (nI n, (fun j => nI (f j)), best', shape, weight, ways)) : wpY_greatest post (nI n, (fun j => nI (f j)), best, shape, weight, ways) (nI q) (nI K) (yw_f fl) := by
  refine ⟨2 ^ n + 1, yw_6 hn hq hK hf hpost (2 ^ n) 0 0 best (by omega) ⟨0, Nat.two_pow_pos n, fun i hi => by simp at hi, ?_, ?_⟩ (fun _ h => absurd h (Nat.not_lt_zero _))⟩
  · intro s hs _
    have e : bm_idx n 0 = [] := by
      apply List.filter_eq_nil_iff.mpr
      intro a _
      simp
    unfold bm_sel at hs
    rw [e] at hs
    rw [List.sublist_nil.mp hs]
    exact Nat.zero_le _
  · have e : bm_idx n 0 = [] := by
      apply List.filter_eq_nil_iff.mpr
      intro a _
      simp
    rw [e]
    rfl
end
end
section
/-- the two objects hold the same row: count, numbers below 100, the first c different; the rest is scratch -/
def i_Rel (_ : Nat) (u : SX) (v : SY) : Prop :=
  ∃ (c : Nat) (f : Nat → Nat) (tab len bst wys bst' shp wgt wys' : Nat → Int32), xw_Row f c ∧ u = (nI c, (fun j => nI (f j)), tab, len, bst, wys) ∧ v = (nI c, (fun j => nI (f j)), bst', shp, wgt, wys')
theorem i_up {k : Nat} {u : SX} {v : SY} (h : i_Rel k u v) : i_Rel (k + 3) u v := h
theorem rl_mk {k c : Nat} {f : Nat → Nat} {tab len bst wys bst' shp wgt wys' : Nat → Int32} (h : xw_Row f c) : i_Rel k (nI c, (fun j => nI (f j)), tab, len, bst, wys) (nI c, (fun j => nI (f j)), bst', shp, wgt, wys') :=
  ⟨c, f, tab, len, bst, wys, bst', shp, wgt, wys', h, rfl, rfl⟩
theorem i_vc0 : wpX_init (fun u => wpY_init (fun v => i_Rel 0 u v)) :=
  rl_mk (k := 0) (c := 0) (f := fun _ => 0) ⟨by omega, fun _ => Nat.zero_lt_succ 99, fun _ _ _ h => by omega⟩
def rl_u (f : Nat → Nat) (i v : Nat) : Nat → Nat := fun j => if j = i then v else f j
theorem rl_upd (f : Nat → Nat) (i v : Nat) : upd (fun j => nI (f j)) i (nI v) = fun j => nI (rl_u f i v j) := by
  funext j
  unfold upd rl_u
  by_cases h : j = i
  · rw [if_pos h, if_pos h]
  · rw [if_neg h, if_neg h]
def rl_sw (f : Nat → Nat) (i j : Nat) : Nat → Nat := rl_u (rl_u f i (f j)) j (f i)
def rl_s (i j a : Nat) : Nat := if a = j then i else if a = i then j else a
theorem rl_sE (f : Nat → Nat) (i j a : Nat) : rl_sw f i j a = f (rl_s i j a) := by
  unfold rl_sw rl_u rl_s
  by_cases h1 : a = j
  · rw [if_pos h1, if_pos h1]
  · rw [if_neg h1, if_neg h1]
    by_cases h2 : a = i
    · rw [if_pos h2, if_pos h2]
    · rw [if_neg h2, if_neg h2]
theorem rl_sC (i j a : Nat) : (a = j ∧ rl_s i j a = i) ∨ (a ≠ j ∧ a = i ∧ rl_s i j a = j) ∨ (a ≠ j ∧ a ≠ i ∧ rl_s i j a = a) := by
  unfold rl_s
  by_cases h1 : a = j
  · exact Or.inl ⟨h1, if_pos h1⟩
  · by_cases h2 : a = i
    · exact Or.inr (Or.inl ⟨h1, h2, by rw [if_neg h1, if_pos h2]⟩)
    · exact Or.inr (Or.inr ⟨h1, h2, by rw [if_neg h1, if_neg h2]⟩)
theorem rl_inj {f : Nat → Nat} {c : Nat} (h : xw_Row f c) {a b : Nat} (ha : a < c) (hb : b < c) (e : f a = f b) : a = b := by
  rcases Nat.lt_trichotomy a b with h1 | h1 | h1
  · exact absurd e (h.2.2 a b h1 hb)
  · exact h1
  · exact absurd e.symm (h.2.2 b a h1 ha)
theorem rl_Row_sw {f : Nat → Nat} {c i j : Nat} (h : xw_Row f c) (hi : i < c) (hj : j < c) : xw_Row (rl_sw f i j) c := by
  refine ⟨h.1, fun a => ?_, fun a b hab hb e => ?_⟩
  · rw [rl_sE]; exact h.2.1 _
  · rw [rl_sE, rl_sE] at e
    have h1 := rl_sC i j a
    have h2 := rl_sC i j b
    have h3 := rl_inj h (a := rl_s i j a) (b := rl_s i j b) (by omega) (by omega) e
    omega
theorem rl_ix (x : Int32) {c : Nat} (hc : c ≤ 10) : (x < 0 ∨ nI c ≤ x) ∨ ∃ j : Nat, j < c ∧ x = nI j := by
  rcases pk_ix x (n := c) (by omega) with h | h | h
  · exact Or.inl (Or.inl h)
  · exact Or.inl (Or.inr h)
  · exact Or.inr h
section
variable {c i j : Nat} {f : Nat → Nat} {row a1 a2 a3 a4 : Nat → Int32} {x : Int32}
theorem xp_no {post : Int32 → Prop} (hc : c ≤ 10) (h : x < 0 ∨ nI c ≤ x) (hp : post 0) : wpX_isPlace post (nI c, row, a1, a2, a3, a4) x := by
  unfold wpX_isPlace
  by_cases h0 : x < 0
  · exact br_t h0 hp
  · exact br_f h0 (br_t (h.resolve_left h0) hp)
theorem xp_ok {post : Int32 → Prop} (hc : c ≤ 10) (hi : i < c) (hp : post 1) : wpX_isPlace post (nI c, row, a1, a2, a3, a4) (nI i) := by
  unfold wpX_isPlace
  exact br_f (nI_pos (by omega)) (br_f (nI_ge hi (by omega)) hp)
theorem yp_no {post : Int32 → Prop} (hc : c ≤ 10) (h : x < 0 ∨ nI c ≤ x) (hp : post 1) : wpY_bad post (nI c, row, a1, a2, a3, a4) x := by
  unfold wpY_bad
  by_cases h0 : x < 0
  · exact br_t h0 hp
  · exact br_f h0 (br_t (h.resolve_left h0) hp)
theorem yp_ok {post : Int32 → Prop} (hc : c ≤ 10) (hi : i < c) (hp : post 0) : wpY_bad post (nI c, row, a1, a2, a3, a4) (nI i) := by
  unfold wpY_bad
  exact br_f (nI_pos (by omega)) (br_f (nI_ge hi (by omega)) (br_t (nI_le (a := i) (b := 9) (by omega) (by omega)) hp))
theorem xp_ex {post : Int32 → SX → Prop} (hc : c ≤ 10) (hi : i < c) (hj : j < c) (hp : post 0 (nI c, (fun a => nI (rl_sw f i j a)), a1, a2, a3, a4)) : wpX_exchange post (nI c, (fun a => nI (f a)), a1, a2, a3, a4) (nI i) (nI j) := by
  have ci : (nI i).toNatClampNeg = i := nI_clamp (by omega)
  have cj : (nI j).toNatClampNeg = j := nI_clamp (by omega)
  unfold wpX_exchange
  simp only [ci, cj]
  refine xp_ok hc hi (br_f (by decide) (xp_ok hc hj (br_f (by decide) ⟨vp_in_nI (by omega) (by omega), fun x ex => ⟨vp_in_nI (by omega) (by omega), vp_in_nI (by omega) (by omega), fun a ea => ⟨vp_in_nI (by omega) (by omega), fun b eb => ?_⟩⟩⟩)))
  subst ex ea eb
  rw [rl_upd, rl_upd]
  exact hp
theorem yp_ex {post : Int32 → SY → Prop} (hc : c ≤ 10) (hi : i < c) (hj : j < c) (hp : post 0 (nI c, (fun a => nI (rl_sw f i j a)), a1, a2, a3, a4)) : wpY_exchange post (nI c, (fun a => nI (f a)), a1, a2, a3, a4) (nI i) (nI j) := by
  have ci : (nI i).toNatClampNeg = i := nI_clamp (by omega)
  have cj : (nI j).toNatClampNeg = j := nI_clamp (by omega)
  unfold wpY_exchange
  simp only [ci, cj]
  refine yp_ok hc hi (br_t rfl (yp_ok hc hj (br_t rfl ⟨vp_in_nI (by omega) (by omega), fun x ex => ⟨vp_in_nI (by omega) (by omega), vp_in_nI (by omega) (by omega), fun a ea => ⟨vp_in_nI (by omega) (by omega), fun b eb => ?_⟩⟩⟩)))
  subst ex ea eb
  rw [rl_upd, rl_upd]
  exact hp
theorem xp_14 {post : Int32 → SX → Prop} {w : Nat} (hc : c ≤ 10) (hf : ∀ j, f j < 100) (hw : w < 100) (h1 : (∃ j, j < c ∧ f j = w) → post (-2) (nI c, (fun a => nI (f a)), a1, a2, a3, a4)) (h2 : (∀ j, j < c → f j ≠ w) → ((nI c = 10 → (post (-3) (nI c, (fun a => nI (f a)), a1, a2, a3, a4))) ∧ (¬ nI c = 10 → (vp_in (nI c) 10 ∧ ∀ r : Nat → Int32, r = upd (fun a => nI (f a)) (nI c).toNatClampNeg (nI w) → (∀ q : Int32, q = nI c + 1 → (post q (q, r, a1, a2, a3, a4))))))) :
    ∀ d i, i + d = c → (∀ j, j < i → f j ≠ w) → wX_push_14 post (nI w) (nI c) (fun a => nI (f a)) a1 a2 a3 a4 (d + 1) (nI i) := by
  intro d
  induction d with
  | zero =>
    intro i hi hn
    have e : i = c := by omega
    subst e
    unfold wX_push_14
    exact br_t (nI_le (Nat.le_refl _) (by omega)) (h2 hn)
  | succ d ih =>
    intro i hi hn
    have ci : (nI i).toNatClampNeg = i := nI_clamp (by omega)
    have fi := hf i
    unfold wX_push_14
    simp only [ci]
    refine br_f (nI_ge (by omega) (by omega)) ⟨vp_in_nI (by omega) (by omega), pk_eq (f i) w (fun e => h1 ⟨i, by omega, e⟩) (fun e x ex => ?_)⟩
    subst ex
    rw [nI_1]
    refine ih (i + 1) (by omega) (fun j hj => ?_)
    by_cases e' : j = i
    · subst e'; exact e
    · exact hn j (by omega)
theorem yp_2 {post : Int32 → Prop} {w : Nat} (hc : c ≤ 10) (hf : ∀ j, f j < 100) (hw : w < 100) (h1 : (∃ j, j < c ∧ f j = w) → post 1) (h2 : (∀ j, j < c → f j ≠ w) → post 0) :
    ∀ d i, i + d = c → (∀ j, j < i → f j ≠ w) → wY_holds_2 post (nI w) (nI c) (fun a => nI (f a)) a1 a2 a3 a4 (d + 1) (nI i) := by
  intro d
  induction d with
  | zero =>
    intro i hi hn
    have e : i = c := by omega
    subst e
    unfold wY_holds_2
    exact br_t (nI_le (Nat.le_refl _) (by omega)) (h2 hn)
  | succ d ih =>
    intro i hi hn
    have ci : (nI i).toNatClampNeg = i := nI_clamp (by omega)
    have fi := hf i
    unfold wY_holds_2
    simp only [ci]
    refine br_f (nI_ge (by omega) (by omega)) (br_f (nI_ge (a := i) (b := 10) (by omega) (by omega)) ⟨vp_in_nI (by omega) (by omega), pk_eq (f i) w (fun e => h1 ⟨i, by omega, e⟩) (fun e x ex => ?_)⟩)
    subst ex
    rw [nI_1]
    refine ih (i + 1) (by omega) (fun j hj => ?_)
    by_cases e' : j = i
    · subst e'; exact e
    · exact hn j (by omega)
theorem yp_holds {post : Int32 → Prop} {w : Nat} (hc : c ≤ 10) (hf : ∀ j, f j < 100) (hw : w < 100) (h1 : (∃ j, j < c ∧ f j = w) → post 1) (h2 : (∀ j, j < c → f j ≠ w) → post 0) : wpY_holds post (nI c, (fun a => nI (f a)), a1, a2, a3, a4) (nI w) :=
  ⟨c + 1, yp_2 hc hf hw h1 h2 c 0 (by omega) (fun _ h => absurd h (Nat.not_lt_zero _))⟩
end
theorem i_vc_push {k : Nat} {u : SX} {v : SY} (I : i_Rel k u v) (hk : k + 3 ≤ 1536) (v1 : Int32) : wpX_push (fun r u' => wpY_push (fun r' v' => r' = r ∧ i_Rel (k + 3) u' v') v v1) u v1 := by
  obtain ⟨c, f, tab, len, bst, wys, bst', shp, wgt, wys', hR, rfl, rfl⟩ := I
  have hc := hR.1
  unfold wpX_push wpY_push
  by_cases h0 : v1 < 0
  · exact br_t h0 (br_t h0 ⟨rfl, rl_mk hR⟩)
  · by_cases h9 : v1 ≤ 99
    · obtain ⟨w, hw, rfl⟩ := nI_of2 (M := 99) (n := 99) (by decide) h0 h9
      refine br_f h0 (br_t h9 ⟨c + 1, xp_14 hc hR.2.1 (by omega) (fun he => ?_) (fun hn => ?_) c 0 (by omega) (fun _ h => absurd h (Nat.not_lt_zero _))⟩)
      · exact br_f h0 (br_t h9 (yp_holds hc hR.2.1 (by omega) (fun _ => br_f (by decide) ⟨rfl, rl_mk hR⟩) (fun h => by
          obtain ⟨j, hj, e⟩ := he
          exact absurd e (h j hj))))
      · have no : ∀ P : Prop, (∃ j, j < c ∧ f j = w) → P := fun P he => by
          obtain ⟨j, hj, e⟩ := he
          exact absurd e (hn j hj)
        refine pk_eq c 10 (fun e => ?_) (fun e => ⟨vp_in_nI (by omega) (by omega), fun r er q eq => ?_⟩)
        · exact br_f h0 (br_t h9 (yp_holds hc hR.2.1 (by omega) (fun he => no _ he) (fun _ => br_t rfl (br_f (nI_nlt (a := c) (b := 10) (by omega) (by omega)) ⟨rfl, rl_mk hR⟩))))
        · refine br_f h0 (br_t h9 (yp_holds hc hR.2.1 (by omega) (fun he => no _ he) (fun _ => br_t rfl (br_t (nI_lt (a := c) (b := 10) (by omega) (by omega)) ⟨vp_in_nI (by omega) (by omega), fun r' er' q' eq' => ?_⟩))))
          have cc : (nI c).toNatClampNeg = c := nI_clamp (by omega)
          subst er eq er' eq'
          rw [cc, rl_upd, nI_1]
          refine ⟨rfl, rl_mk ⟨by omega, fun j => ?_, fun i j hij hj => ?_⟩⟩
          · unfold rl_u
            split
            · omega
            · exact hR.2.1 j
          · unfold rl_u
            rw [if_neg (by omega : i ≠ c)]
            by_cases e1 : j = c
            · rw [if_pos e1]
              exact hn i (by omega)
            · rw [if_neg e1]
              exact hR.2.2 i j hij (by omega)
    · exact br_f h0 (br_f h9 (br_f h0 (br_f h9 ⟨rfl, rl_mk hR⟩)))
theorem i_vc_pop {k : Nat} {u : SX} {v : SY} (I : i_Rel k u v) (hk : k + 3 ≤ 1536) : wpX_pop (fun r u' => wpY_pop (fun r' v' => r' = r ∧ i_Rel (k + 3) u' v') v) u := by
  obtain ⟨c, f, tab, len, bst, wys, bst', shp, wgt, wys', hR, rfl, rfl⟩ := I
  have hc := hR.1
  unfold wpX_pop wpY_pop
  cases c with
  | zero => exact br_t rfl (br_t rfl ⟨rfl, rl_mk hR⟩)
  | succ c =>
    have hz : ¬ nI (c + 1) = 0 := nI_ne0 (by omega) (by omega)
    refine br_f hz (fun a ea => ?_)
    rw [nI_pred] at ea
    subst ea
    refine ⟨vp_in_nI (by omega) (by omega), br_f hz (fun a ea => ?_)⟩
    rw [nI_pred] at ea
    subst ea
    exact ⟨vp_in_nI (by omega) (by omega), rfl, rl_mk (xw_Row_le hR (by omega))⟩
theorem i_vc_length {k : Nat} {u : SX} {v : SY} (I : i_Rel k u v) (hk : k + 3 ≤ 1536) : wpX_length (fun r => wpY_length (fun r' => r' = r ∧ i_Rel (k + 3) u v) v) u := by
  obtain ⟨c, f, tab, len, bst, wys, bst', shp, wgt, wys', hR, rfl, rfl⟩ := I
  exact ⟨rfl, rl_mk hR⟩
theorem i_vc_at {k : Nat} {u : SX} {v : SY} (I : i_Rel k u v) (hk : k + 3 ≤ 1536) (v1 : Int32) : wpX_at (fun r => wpY_at (fun r' => r' = r ∧ i_Rel (k + 3) u v) v v1) u v1 := by
  obtain ⟨c, f, tab, len, bst, wys, bst', shp, wgt, wys', hR, rfl, rfl⟩ := I
  have hc := hR.1
  unfold wpX_at wpY_at
  dsimp only
  rcases rl_ix v1 hc with h | ⟨i, hi, rfl⟩
  · exact xp_no hc h (br_t rfl (yp_no hc h (br_f (by decide) ⟨rfl, rl_mk hR⟩)))
  · exact xp_ok hc hi (br_f (by decide) ⟨vp_in_nI (by omega) (by omega), yp_ok hc hi (br_t rfl ⟨vp_in_nI (by omega) (by omega), rfl, rl_mk hR⟩)⟩)
theorem i_vc_exchange {k : Nat} {u : SX} {v : SY} (I : i_Rel k u v) (hk : k + 3 ≤ 1536) (v1 : Int32) (v2 : Int32) : wpX_exchange (fun r u' => wpY_exchange (fun r' v' => r' = r ∧ i_Rel (k + 3) u' v') v v1 v2) u v1 v2 := by
  obtain ⟨c, f, tab, len, bst, wys, bst', shp, wgt, wys', hR, rfl, rfl⟩ := I
  have hc := hR.1
  rcases rl_ix v1 hc with h | ⟨i, hi, rfl⟩
  · unfold wpX_exchange wpY_exchange
    dsimp only
    exact xp_no hc h (br_t rfl (yp_no hc h (br_f (by decide) ⟨rfl, rl_mk hR⟩)))
  · rcases rl_ix v2 hc with h | ⟨j, hj, rfl⟩
    · unfold wpX_exchange wpY_exchange
      dsimp only
      exact xp_ok hc hi (br_f (by decide) (xp_no hc h (br_t rfl (yp_ok hc hi (br_t rfl (yp_no hc h (br_f (by decide) ⟨rfl, rl_mk hR⟩)))))))
    · exact xp_ex hc hi hj (yp_ex hc hi hj ⟨rfl, rl_mk (rl_Row_sw hR hi hj)⟩)
end
section
/-- reversal by swaps, from the swap i on -/
def rl_rv (c : Nat) : Nat → Nat → (Nat → Nat) → (Nat → Nat)
  | 0, _, f => f
  | d + 1, i, f => rl_rv c d (i + 1) (rl_sw f i (c - 1 - i))
theorem rl_Row_rv {c : Nat} : ∀ d i f, i + d ≤ c / 2 → xw_Row f c → xw_Row (rl_rv c d i f) c := by
  intro d
  induction d with
  | zero => intro i f _ h; exact h
  | succ d ih => intro i f hi h; exact ih (i + 1) _ (by omega) (rl_Row_sw h (by omega) (by omega))
section
variable {c : Nat} {a1 a2 a3 a4 : Nat → Int32}
theorem xp_rv {post : Int32 → SX → Prop} {e : Nat} (hc : e + 1 ≤ 10) : ∀ d i f, i + d = (e + 1) / 2 → post (nI (e + 1)) (nI (e + 1), (fun a => nI (rl_rv (e + 1) d i f a)), a1, a2, a3, a4) → wX_reverse_2 post (nI (e + 1)) (d + 1) (nI i) (fun a => nI (f a)) a1 a2 a3 a4 := by
  intro d
  induction d with
  | zero =>
    intro i f hi hp
    unfold wX_reverse_2
    simp only [nI_pred, show (2 : Int32) = nI 2 from rfl, pk_mul]
    exact br_t (nI_le (by omega) (by omega)) hp
  | succ d ih =>
    intro i f hi hp
    have ci : (nI i).toNatClampNeg = i := nI_clamp (by omega)
    have ce : (nI (e - i)).toNatClampNeg = e - i := nI_clamp (by omega)
    have es : nI e - nI i = nI (e - i) := pk_sub (by omega)
    unfold wX_reverse_2
    simp only [nI_pred, show (2 : Int32) = nI 2 from rfl, pk_mul, es, ci, ce]
    refine br_f (nI_ge (by omega) (by omega)) ⟨vp_in_nI (by omega) (by omega), fun x ex => ⟨vp_in_nI (by omega) (by omega), vp_in_nI (by omega) (by omega), fun a ea => ⟨vp_in_nI (by omega) (by omega), fun b eb y ey => ?_⟩⟩⟩
    subst ex ea eb ey
    rw [rl_upd, rl_upd, nI_1]
    exact ih (i + 1) _ (by omega) hp
theorem yp_rv {post : Int32 → SY → Prop} (hc : c ≤ 10) : ∀ d i f, i + d = c / 2 → post (nI c) (nI c, (fun a => nI (rl_rv c d i f a)), a1, a2, a3, a4) → wY_reverse_2 post (d + 1) (nI i) (nI c) (fun a => nI (f a)) a1 a2 a3 a4 := by
  have ed : nI c / 2 = nI (c / 2) := pk_div (d := 2) (by omega) (by omega) (by omega)
  intro d
  induction d with
  | zero =>
    intro i f hi hp
    unfold wY_reverse_2
    rw [ed]
    exact ⟨by decide, br_t (nI_le (by omega) (by omega)) hp⟩
  | succ d ih =>
    intro i f hi hp
    obtain ⟨e, rfl⟩ : ∃ e, c = e + 1 := ⟨c - 1, by omega⟩
    have es : nI (e + 1) - 1 - nI i = nI (e + 1 - 1 - i) := by rw [nI_pred]; exact pk_sub (by omega)
    unfold wY_reverse_2
    rw [ed, es]
    refine ⟨by decide, br_f (nI_ge (by omega) (by omega)) (yp_ex hc (by omega) (by omega) (fun x ex => ?_))⟩
    subst ex
    rw [nI_1]
    exact ih (i + 1) _ (by omega) hp
end
theorem i_vc_reverse {k : Nat} {u : SX} {v : SY} (I : i_Rel k u v) (hk : k + 3 ≤ 1536) : wpX_reverse (fun r u' => wpY_reverse (fun r' v' => r' = r ∧ i_Rel (k + 3) u' v') v) u := by
  obtain ⟨c, f, tab, len, bst, wys, bst', shp, wgt, wys', hR, rfl, rfl⟩ := I
  have hc := hR.1
  have Y : wpY_reverse (fun r' v' => r' = nI c ∧ i_Rel (k + 3) (nI c, (fun a => nI (rl_rv c (c / 2) 0 f a)), tab, len, bst, wys) v') (nI c, (fun j => nI (f j)), bst', shp, wgt, wys') :=
    ⟨c / 2 + 1, yp_rv hc (c / 2) 0 f (by omega) ⟨rfl, rl_mk (rl_Row_rv _ _ _ (by omega) hR)⟩⟩
  cases c with
  | zero =>
    refine ⟨1, ?_⟩
    unfold wX_reverse_2
    exact br_t (by decide) Y
  | succ e => exact ⟨(e + 1) / 2 + 1, xp_rv hc ((e + 1) / 2) 0 f (by omega) Y⟩
/-- the first i numbers mirrored -/
def rl_mi (f : Nat → Nat) (i : Nat) : Nat → Nat := fun j => if j < i then 99 - f j else f j
theorem rl_miS {f : Nat → Nat} {i : Nat} (hf : f i < 100) : upd (fun j => nI (rl_mi f i j)) i (99 - nI (rl_mi f i i)) = fun j => nI (rl_mi f (i + 1) j) := by
  have e : rl_mi f i i = f i := if_neg (Nat.lt_irrefl _)
  rw [e, show (99 : Int32) - nI (f i) = nI (99 - f i) from pk_sub (a := 99) (by omega), rl_upd]
  funext j
  congr 1
  unfold rl_u rl_mi
  by_cases h : j = i
  · rw [if_pos h, if_pos (by omega), h]
  · rw [if_neg h]
    by_cases h2 : j < i
    · rw [if_pos h2, if_pos (by omega)]
    · rw [if_neg h2, if_neg (by omega)]
theorem rl_Row_mi {f : Nat → Nat} {c : Nat} (h : xw_Row f c) : xw_Row (rl_mi f c) c := by
  refine ⟨h.1, fun j => ?_, fun i j hij hj => ?_⟩
  · unfold rl_mi
    have := h.2.1 j
    split <;> omega
  · unfold rl_mi
    rw [if_pos (by omega), if_pos hj]
    have h1 := h.2.2 i j hij hj
    have h2 := h.2.1 i
    have h3 := h.2.1 j
    omega
section
variable {c : Nat} {f : Nat → Nat} {a1 a2 a3 a4 : Nat → Int32}
theorem xp_mi {post : Int32 → SX → Prop} (hc : c ≤ 10) (hf : ∀ j, f j < 100) (hp : post (nI c) (nI c, (fun a => nI (rl_mi f c a)), a1, a2, a3, a4)) : ∀ d i, i + d = c → wX_mirror_2 post (nI c) (d + 1) (nI i) (fun a => nI (rl_mi f i a)) a1 a2 a3 a4 := by
  intro d
  induction d with
  | zero =>
    intro i hi
    have e : i = c := by omega
    subst e
    unfold wX_mirror_2
    exact br_t (nI_le (Nat.le_refl _) (by omega)) hp
  | succ d ih =>
    intro i hi
    have ci : (nI i).toNatClampNeg = i := nI_clamp (by omega)
    unfold wX_mirror_2
    simp only [ci]
    refine br_f (nI_ge (by omega) (by omega)) ⟨vp_in_nI (by omega) (by omega), vp_in_nI (by omega) (by omega), fun a ea x ex => ?_⟩
    subst ea ex
    rw [rl_miS (hf i), nI_1]
    exact ih (i + 1) (by omega)
theorem yp_mi {post : Int32 → SY → Prop} (hc : c ≤ 10) (hf : ∀ j, f j < 100) (hp : post (nI c) (nI c, (fun a => nI (rl_mi f c a)), a1, a2, a3, a4)) : ∀ d i, i + d = c → wY_mirror_2 post (nI c) (d + 1) (nI i) (fun a => nI (rl_mi f i a)) a1 a2 a3 a4 := by
  intro d
  induction d with
  | zero =>
    intro i hi
    have e : i = c := by omega
    subst e
    unfold wY_mirror_2
    exact br_t (nI_le (Nat.le_refl _) (by omega)) hp
  | succ d ih =>
    intro i hi
    have ci : (nI i).toNatClampNeg = i := nI_clamp (by omega)
    unfold wY_mirror_2
    simp only [ci]
    refine br_f (nI_ge (by omega) (by omega)) (br_f (nI_ge (a := i) (b := 10) (by omega) (by omega)) ⟨vp_in_nI (by omega) (by omega), vp_in_nI (by omega) (by omega), fun a ea x ex => ?_⟩)
    subst ea ex
    rw [rl_miS (hf i), nI_1]
    exact ih (i + 1) (by omega)
end
theorem i_vc_mirror {k : Nat} {u : SX} {v : SY} (I : i_Rel k u v) (hk : k + 3 ≤ 1536) : wpX_mirror (fun r u' => wpY_mirror (fun r' v' => r' = r ∧ i_Rel (k + 3) u' v') v) u := by
  obtain ⟨c, f, tab, len, bst, wys, bst', shp, wgt, wys', hR, rfl, rfl⟩ := I
  exact ⟨c + 1, xp_mi hR.1 hR.2.1 ⟨c + 1, yp_mi hR.1 hR.2.1 ⟨rfl, rl_mk (rl_Row_mi hR)⟩ c 0 (by omega)⟩ c 0 (by omega)⟩
/-- the number at i taken to i + d, to i - d, by swaps -/
def rl_fw : Nat → Nat → (Nat → Nat) → (Nat → Nat)
  | 0, _, f => f
  | d + 1, i, f => rl_fw d (i + 1) (rl_sw f i (i + 1))
def rl_bw : Nat → Nat → (Nat → Nat) → (Nat → Nat)
  | 0, _, f => f
  | d + 1, i, f => rl_bw d (i - 1) (rl_sw f i (i - 1))
theorem rl_Row_fw {c : Nat} : ∀ d i f, i + d < c → xw_Row f c → xw_Row (rl_fw d i f) c := by
  intro d
  induction d with
  | zero => intro i f _ h; exact h
  | succ d ih => intro i f hi h; exact ih (i + 1) _ (by omega) (rl_Row_sw h (by omega) (by omega))
theorem rl_Row_bw {c : Nat} : ∀ d i f, i < c → xw_Row f c → xw_Row (rl_bw d i f) c := by
  intro d
  induction d with
  | zero => intro i f _ h; exact h
  | succ d ih => intro i f hi h; exact ih (i - 1) _ (by omega) (rl_Row_sw h (by omega) (by omega))
theorem rl_swu {g : Nat → Nat} {i j v : Nat} (h : j ≠ i) : rl_sw (rl_u g i v) i j = rl_u (rl_u g i (g j)) j v := by
  have e1 : rl_u g i v j = g j := if_neg h
  have e2 : rl_u g i v i = v := if_pos rfl
  unfold rl_sw
  rw [e1, e2]
  funext a
  unfold rl_u
  by_cases h1 : a = j
  · rw [if_pos h1, if_pos h1]
  · rw [if_neg h1, if_neg h1]
    by_cases h2 : a = i
    · rw [if_pos h2, if_pos h2]
    · rw [if_neg h2, if_neg h2, if_neg h2]
theorem rl_u_id {f : Nat → Nat} {i : Nat} : rl_u f i (f i) = f := by
  funext a
  unfold rl_u
  by_cases h : a = i
  · rw [if_pos h, h]
  · rw [if_neg h]
section
variable {c s t v : Nat} {a1 a2 a3 a4 : Nat → Int32}
theorem xp_fw {post : Int32 → SX → Prop} (hc : c ≤ 10) (ht : t < c) (hs : s ≤ t) : ∀ d i g, i + d = t → post 0 (nI c, (fun a => nI (rl_fw d i (rl_u g i v) a)), a1, a2, a3, a4) → wX_move_28 post (nI s) (nI t) (nI v) (nI c) (d + 1) (nI i) (fun a => nI (g a)) a1 a2 a3 a4 := by
  have ct : (nI t).toNatClampNeg = t := nI_clamp (by omega)
  intro d
  induction d with
  | zero =>
    intro i g hi hp
    have e : i = t := by omega
    subst e
    unfold wX_move_28
    refine br_t (nI_le (Nat.le_refl _) (by omega)) ⟨1, ?_⟩
    unfold wX_move_59
    refine br_t (nI_le hs (by omega)) ⟨vp_in_nI (by omega) (by omega), fun a ea => ?_⟩
    subst ea
    rw [ct, rl_upd]
    exact hp
  | succ d ih =>
    intro i g hi hp
    have ci : (nI i).toNatClampNeg = i := nI_clamp (by omega)
    have ci1 : (nI (i + 1)).toNatClampNeg = i + 1 := nI_clamp (by omega)
    unfold wX_move_28
    simp only [nI_1, ci, ci1]
    refine br_f (nI_ge (by omega) (by omega)) ⟨vp_in_nI (by omega) (by omega), vp_in_nI (by omega) (by omega), fun a ea x ex => ?_⟩
    subst ea ex
    rw [rl_upd]
    refine ih (i + 1) _ (by omega) ?_
    rw [rl_fw, rl_swu (by omega)] at hp
    exact hp
theorem xp_bw {post : Int32 → SX → Prop} (hc : c ≤ 10) : ∀ d g, t + d < c → post 0 (nI c, (fun a => nI (rl_bw d (t + d) (rl_u g (t + d) v) a)), a1, a2, a3, a4) → wX_move_59 post (nI t) (nI v) (nI c) (d + 1) (nI (t + d)) (fun a => nI (g a)) a1 a2 a3 a4 := by
  intro d
  induction d with
  | zero =>
    intro g hi hp
    have ct : (nI t).toNatClampNeg = t := nI_clamp (by omega)
    unfold wX_move_59
    refine br_t (nI_le (Nat.le_refl _) (by omega)) ⟨vp_in_nI (by omega) (by omega), fun a ea => ?_⟩
    subst ea
    rw [ct, rl_upd]
    exact hp
  | succ d ih =>
    intro g hi hp
    have ci : (nI (t + d + 1)).toNatClampNeg = t + d + 1 := nI_clamp (by omega)
    have ci1 : (nI (t + d)).toNatClampNeg = t + d := nI_clamp (by omega)
    rw [← Nat.add_assoc] at hp ⊢
    unfold wX_move_59
    simp only [nI_pred, pk_m1, ci, ci1]
    refine br_f (nI_ge (by omega) (by omega)) ⟨vp_in_nI (by omega) (by omega), vp_in_nI (by omega) (by omega), fun a ea x ex => ?_⟩
    subst ea ex
    rw [rl_upd]
    refine ih _ (by omega) ?_
    rw [rl_bw, rl_swu (by omega), Nat.add_sub_cancel] at hp
    exact hp
theorem yp_fw {post : Int32 → SY → Prop} (hc : c ≤ 10) (ht : t < c) (hs : s ≤ t) : ∀ d i g, i + d = t → post 0 (nI c, (fun a => nI (rl_fw d i g a)), a1, a2, a3, a4) → wY_move_20 post (nI s) (nI t) (d + 1) (nI i) (nI c) (fun a => nI (g a)) a1 a2 a3 a4 := by
  intro d
  induction d with
  | zero =>
    intro i g hi hp
    have e : i = t := by omega
    subst e
    unfold wY_move_20
    refine br_t (nI_le (Nat.le_refl _) (by omega)) ⟨1, ?_⟩
    unfold wY_move_42
    exact br_t (nI_le hs (by omega)) hp
  | succ d ih =>
    intro i g hi hp
    unfold wY_move_20
    rw [nI_1]
    refine br_f (nI_ge (by omega) (by omega)) (yp_ex hc (by omega) (by omega) (fun x ex => ?_))
    subst ex
    exact ih (i + 1) _ (by omega) hp
theorem yp_bw {post : Int32 → SY → Prop} (hc : c ≤ 10) : ∀ d g, t + d < c → post 0 (nI c, (fun a => nI (rl_bw d (t + d) g a)), a1, a2, a3, a4) → wY_move_42 post (nI t) (d + 1) (nI (t + d)) (nI c) (fun a => nI (g a)) a1 a2 a3 a4 := by
  intro d
  induction d with
  | zero =>
    intro g hi hp
    unfold wY_move_42
    exact br_t (nI_le (Nat.le_refl _) (by omega)) hp
  | succ d ih =>
    intro g hi hp
    rw [← Nat.add_assoc] at hp ⊢
    unfold wY_move_42
    rw [nI_pred]
    refine br_f (nI_ge (by omega) (by omega)) (yp_ex hc (by omega) (by omega) (fun x ex => ?_))
    rw [pk_m1] at ex
    subst ex
    refine ih _ (by omega) ?_
    rw [rl_bw, Nat.add_sub_cancel] at hp
    exact hp
end
theorem i_vc_move {k : Nat} {u : SX} {v : SY} (I : i_Rel k u v) (hk : k + 3 ≤ 1536) (v1 : Int32) (v2 : Int32) : wpX_move (fun r u' => wpY_move (fun r' v' => r' = r ∧ i_Rel (k + 3) u' v') v v1 v2) u v1 v2 := by
  obtain ⟨c, f, tab, len, bst, wys, bst', shp, wgt, wys', hR, rfl, rfl⟩ := I
  have hc := hR.1
  unfold wpX_move wpY_move
  dsimp only
  rcases rl_ix v1 hc with h | ⟨s, hs, rfl⟩
  · exact xp_no hc h (br_t rfl (yp_no hc h (br_f (by decide) ⟨rfl, rl_mk hR⟩)))
  · rcases rl_ix v2 hc with h | ⟨t, ht, rfl⟩
    · exact xp_ok hc hs (br_f (by decide) (xp_no hc h (br_t rfl (yp_ok hc hs (br_t rfl (yp_no hc h (br_f (by decide) ⟨rfl, rl_mk hR⟩)))))))
    · have cs : (nI s).toNatClampNeg = s := nI_clamp (by omega)
      refine xp_ok hc hs (br_f (by decide) (xp_ok hc ht (br_f (by decide) ⟨vp_in_nI (by omega) (by omega), fun x ex => ?_⟩)))
      rw [cs] at ex
      subst ex
      by_cases hst : s ≤ t
      · refine ⟨t - s + 1, xp_fw hc ht hst (t - s) s f (by omega) ?_⟩
        rw [rl_u_id]
        exact yp_ok hc hs (br_t rfl (yp_ok hc ht (br_t rfl ⟨t - s + 1, yp_fw hc ht hst (t - s) s f (by omega) ⟨rfl, rl_mk (rl_Row_fw _ _ _ (by omega) hR)⟩⟩)))
      · obtain ⟨d, rfl⟩ : ∃ d, s = t + d := ⟨s - t, by omega⟩
        refine ⟨1, ?_⟩
        unfold wX_move_28
        refine br_t (nI_le (by omega) (by omega)) ⟨d + 1, xp_bw hc d f hs ?_⟩
        rw [rl_u_id]
        refine yp_ok hc hs (br_t rfl (yp_ok hc ht (br_t rfl ⟨1, ?_⟩)))
        unfold wY_move_20
        exact br_t (nI_le (by omega) (by omega)) ⟨d + 1, yp_bw hc d f hs ⟨rfl, rl_mk (rl_Row_bw _ _ _ hs hR)⟩⟩
/-- inversions below n -/
def rl_iv (f : Nat → Nat) (n : Nat) : Nat := gt_sum (fun j => gt_cnt (fun i => decide (f j < f i)) j) n
section
variable {c j s : Nat} {f : Nat → Nat} {a1 a2 a3 a4 : Nat → Int32}
theorem xp_iv14 {post : Int32 → Prop} {J : Int32 → Int32 → Prop} {fc : Int32} (hj : j < 10) (hf : ∀ j, f j < 100) (hJ : J (nI (s + gt_cnt (fun i => decide (f j < f i)) j)) (nI (j + 1))) : ∀ d i, i + d = j → wX_inversions_14 post J (nI j) fc (fun a => nI (f a)) a1 a2 a3 a4 (d + 1) (nI (s + gt_cnt (fun i => decide (f j < f i)) i)) (nI i) := by
  have cj : (nI j).toNatClampNeg = j := nI_clamp (by omega)
  intro d
  induction d with
  | zero =>
    intro i hi
    have e : i = j := by omega
    subst e
    unfold wX_inversions_14
    refine br_t (nI_le (Nat.le_refl _) (by omega)) (fun x ex => ?_)
    subst ex
    rw [nI_1]
    exact hJ
  | succ d ih =>
    intro i hi
    have ci : (nI i).toNatClampNeg = i := nI_clamp (by omega)
    have h1 := ih (i + 1) (by omega)
    have fi := hf i
    have fj := hf j
    rw [gt_cnt] at h1
    unfold wX_inversions_14
    simp only [ci, cj]
    refine br_f (nI_ge (by omega) (by omega)) ⟨vp_in_nI (by omega) (by omega), vp_in_nI (by omega) (by omega), pk_le (f i) (f j) (fun h x ex y ey => ?_) (fun h x ex y ey => ?_)⟩
    · subst ex ey
      rw [if_neg (fun z => by have := of_decide_eq_true z; omega), Nat.add_zero] at h1
      rw [Int32.add_zero, nI_1]
      exact h1
    · subst ex ey
      rw [if_pos (decide_eq_true h)] at h1
      rw [nI_1, nI_1]
      exact h1
theorem yp_iv20 {post : Int32 → Prop} {J : Int32 → Int32 → Prop} {fc : Int32} (hj : j < 10) (hf : ∀ j, f j < 100) (hJ : J (nI (s + gt_cnt (fun i => decide (f j < f i)) j)) (nI (j + 1))) : ∀ d i, i + d = j → wY_inversions_20 post J (nI j) fc (fun a => nI (f a)) a1 a2 a3 a4 (d + 1) (nI (s + gt_cnt (fun i => decide (f j < f i)) i)) (nI i) := by
  have cj : (nI j).toNatClampNeg = j := nI_clamp (by omega)
  intro d
  induction d with
  | zero =>
    intro i hi
    have e : i = j := by omega
    subst e
    unfold wY_inversions_20
    refine br_t (nI_le (Nat.le_refl _) (by omega)) (fun x ex => ?_)
    subst ex
    rw [nI_1]
    exact hJ
  | succ d ih =>
    intro i hi
    have ci : (nI i).toNatClampNeg = i := nI_clamp (by omega)
    have h1 := ih (i + 1) (by omega)
    have fi := hf i
    have fj := hf j
    rw [gt_cnt] at h1
    unfold wY_inversions_20
    simp only [ci, cj]
    refine br_f (nI_ge (by omega) (by omega)) ⟨vp_in_nI (by omega) (by omega), vp_in_nI (by omega) (by omega), pk_le (f i) (f j) (fun h x ex => ?_) (fun h x ex y ey => ?_)⟩
    · subst ex
      rw [if_neg (fun z => by have := of_decide_eq_true z; omega), Nat.add_zero] at h1
      rw [nI_1]
      exact h1
    · subst ex ey
      rw [if_pos (decide_eq_true h)] at h1
      rw [nI_1, nI_1]
      exact h1
theorem xp_iv4 {post : Int32 → Prop} (hc : c ≤ 10) (hf : ∀ j, f j < 100) (hp : post (nI (rl_iv f c))) : ∀ d j, j + d = c → wX_inversions_4 post (nI c) (fun a => nI (f a)) a1 a2 a3 a4 (d + 1) (nI (rl_iv f j)) (nI j) := by
  intro d
  induction d with
  | zero =>
    intro j hj
    have e : j = c := by omega
    subst e
    unfold wX_inversions_4
    exact br_t (nI_le (Nat.le_refl _) (by omega)) hp
  | succ d ih =>
    intro j hj
    unfold wX_inversions_4
    exact br_f (nI_ge (by omega) (by omega)) ⟨j + 1, xp_iv14 (by omega) hf (ih (j + 1) (by omega)) j 0 (by omega)⟩
theorem yp_iv4 {post : Int32 → Prop} (hc : c ≤ 10) (hf : ∀ j, f j < 100) (hp : post (nI (rl_iv f c))) : ∀ d j, j + d = c → wY_inversions_4 post (nI c) (fun a => nI (f a)) a1 a2 a3 a4 (d + 1) (nI (rl_iv f j)) (nI j) := by
  intro d
  induction d with
  | zero =>
    intro j hj
    have e : j = c := by omega
    subst e
    unfold wY_inversions_4
    exact br_t (nI_le (Nat.le_refl _) (by omega)) hp
  | succ d ih =>
    intro j hj
    unfold wY_inversions_4
    exact br_f (nI_ge (by omega) (by omega)) (br_f (nI_ge (a := j) (b := 10) (by omega) (by omega)) ⟨j + 1, yp_iv20 (by omega) hf (ih (j + 1) (by omega)) j 0 (by omega)⟩)
end
theorem i_vc_inversions {k : Nat} {u : SX} {v : SY} (I : i_Rel k u v) (hk : k + 3 ≤ 1536) : wpX_inversions (fun r => wpY_inversions (fun r' => r' = r ∧ i_Rel (k + 3) u v) v) u := by
  obtain ⟨c, f, tab, len, bst, wys, bst', shp, wgt, wys', hR, rfl, rfl⟩ := I
  have hc := hR.1
  have Y : wpY_inversions (fun r' => r' = nI (rl_iv f c) ∧ i_Rel (k + 3) (nI c, (fun j => nI (f j)), tab, len, bst, wys) (nI c, (fun j => nI (f j)), bst', shp, wgt, wys')) (nI c, (fun j => nI (f j)), bst', shp, wgt, wys') :=
    ⟨c + 1, yp_iv4 hc hR.2.1 ⟨rfl, rl_mk hR⟩ c 0 (by omega)⟩
  cases c with
  | zero =>
    refine ⟨1, ?_⟩
    unfold wX_inversions_4
    exact br_t (by decide) Y
  | succ c => exact ⟨c + 1, xp_iv4 hc hR.2.1 Y c 1 (by omega)⟩
end
section
theorem rn_one {R R' : Nat → Nat → Prop} (h1 : ∀ a b, R a b → ¬ R' a b) (h2 : ∀ a b, a ≠ b → ¬ R' a b → R a b) {W : List Nat} (hW : W.Nodup) {m N : Nat} (hm : rn_Is R W m) (lo : ∃ t : List Nat, t.Sublist W ∧ kn_Good R' 1 t ∧ t.length = N) (up : ∀ t : List Nat, t.Sublist W → kn_Good R' 1 t → t.length ≤ N) : m = N := by
  apply Nat.le_antisymm
  · obtain ⟨s, s1, s2, s3⟩ := hm.2
    rw [← s3]
    refine up s s1 ?_
    intro s' h3 h4
    have h5 := s2.sublist h3
    match s', h4, h5 with
    | [], _, _ => exact Nat.zero_le _
    | [a], _, _ => exact Nat.le_refl _
    | a :: b :: r, h4, h5 =>
      exact absurd ((List.pairwise_cons.mp h4).1 b (by simp)) (h1 a b ((List.pairwise_cons.mp h5).1 b (by simp)))
  · obtain ⟨t, t1, t2, t3⟩ := lo
    rw [← t3]
    refine hm.1 t t1 (List.pairwise_of_forall_sublist ?_)
    intro a b hab
    have hne : a ≠ b := by
      have := (hW.sublist (hab.trans t1))
      simpa using this
    refine h2 a b hne (fun hr => ?_)
    have h3 : [a, b].length ≤ 1 := t2 [a, b] hab (by simpa using hr)
    simp at h3
section
variable {c K : Nat} {f : Nat → Nat} {a1 a2 a3 a4 : Nat → Int32}
theorem yq_whole {post : Int32 → Prop} {row : Nat → Int32} (hc : c ≤ 10) (hp : post (nI (2 ^ c - 1))) : wpY_whole post (nI c, row, a1, a2, a3, a4) := by
  have h := Nat.two_pow_pos c
  unfold wpY_whole
  dsimp only
  rw [yw_1l hc, show nI (2 ^ c) - 1 = nI (2 ^ c - 1) from pk_sub (b := 1) (by omega)]
  exact hp
theorem yq_lt (hc : c ≤ 10) : 2 ^ c - 1 < 2 ^ 31 ∧ 2 ^ c - 1 < 2 ^ c := by
  have h2 : 2 ^ c ≤ 2 ^ 10 := Nat.pow_le_pow_right (by omega) hc
  have h := Nat.two_pow_pos c
  omega
theorem yq_rise {T : Nat → Nat → Nat} {l : Nat → Nat} {p M : Nat} (hp : p ≤ c) (hD : gt_Done ((List.range p).map f) T l) (hM : gr_Is f c (2 ^ p - 1) (yw_R true) K M) : M = gt_sum l (min K 10) := by
  refine gr_eq hM ?_ ?_
  · rw [bm_sel_all f hp]
    exact gt_r_lo hD K
  · intro t ht hg
    rw [bm_sel_all f hp] at ht
    exact gt_r_up hD K ht hg
theorem yq_fall {T : Nat → Nat → Nat} {l : Nat → Nat} {M : Nat} (hD : gt_Done ((List.range c).map f) T l) (hM : gr_Is f c (2 ^ c - 1) (yw_R false) K M) : M = gt_sum (fun q => min (l q) K) 10 := by
  refine gr_eq hM ?_ ?_
  · rw [bm_sel_all f (Nat.le_refl c)]
    exact gt_f_lo hD K
  · intro t ht hg
    rw [bm_sel_all f (Nat.le_refl c)] at ht
    exact gt_f_up hD K ht hg
end
theorem i_vc_rise {k : Nat} {u : SX} {v : SY} (I : i_Rel k u v) (hk : k + 3 ≤ 1536) (v1 : Int32) : wpX_rise (fun r u' => wpY_rise (fun r' v' => r' = r ∧ i_Rel (k + 3) u' v') v v1) u v1 := by
  obtain ⟨c, f, tab, len, bst, wys, bst', shp, wgt, wys', hR, rfl, rfl⟩ := I
  have hc := hR.1
  unfold wpX_rise wpY_rise
  by_cases h0 : 0 ≤ v1
  · obtain ⟨K, hK, rfl⟩ := nI_of (x := v1) (Int32.not_lt.mpr h0)
    refine br_t h0 (xw_insertAll hR (fun tab' len' T l hA hD => xr_firstRows hK hA ?_))
    refine yq_whole hc (br_t h0 (yw_greatest (fl := true) hc (yq_lt hc).1 hK hR.2.1 (fun M best' hM => ?_)))
    exact ⟨congrArg nI (yq_rise (Nat.le_refl c) hD hM), rl_mk hR⟩
  · exact br_f h0 (yq_whole hc (br_f h0 ⟨rfl, rl_mk hR⟩))
theorem i_vc_fall {k : Nat} {u : SX} {v : SY} (I : i_Rel k u v) (hk : k + 3 ≤ 1536) (v1 : Int32) : wpX_fall (fun r u' => wpY_fall (fun r' v' => r' = r ∧ i_Rel (k + 3) u' v') v v1) u v1 := by
  obtain ⟨c, f, tab, len, bst, wys, bst', shp, wgt, wys', hR, rfl, rfl⟩ := I
  have hc := hR.1
  unfold wpX_fall wpY_fall
  by_cases h0 : 0 ≤ v1
  · obtain ⟨K, hK, rfl⟩ := nI_of (x := v1) (Int32.not_lt.mpr h0)
    refine br_t h0 (xw_insertAll hR (fun tab' len' T l hA hD => ⟨11, xr_fall hK hA (fun q hq => gt_Done_len hD hq) ?_ 10 0 rfl⟩))
    refine yq_whole hc (br_t h0 (yw_greatest (fl := false) hc (yq_lt hc).1 hK hR.2.1 (fun M best' hM => ?_)))
    exact ⟨congrArg nI (yq_fall hD hM), rl_mk hR⟩
  · exact br_f h0 (yq_whole hc (br_f h0 ⟨rfl, rl_mk hR⟩))
theorem i_vc_riseOfFirst {k : Nat} {u : SX} {v : SY} (I : i_Rel k u v) (hk : k + 3 ≤ 1536) (v1 : Int32) (v2 : Int32) : wpX_riseOfFirst (fun r u' => wpY_riseOfFirst (fun r' v' => r' = r ∧ i_Rel (k + 3) u' v') v v1 v2) u v1 v2 := by
  obtain ⟨c, f, tab, len, bst, wys, bst', shp, wgt, wys', hR, rfl, rfl⟩ := I
  have hc := hR.1
  unfold wpX_riseOfFirst wpY_riseOfFirst
  by_cases h1 : v1 < 0
  · exact br_t h1 (br_t h1 ⟨rfl, rl_mk hR⟩)
  · obtain ⟨P, hP, rfl⟩ := nI_of (x := v1) h1
    by_cases h2 : P ≤ c
    · have h2' : nI P ≤ nI c := nI_le h2 (by omega)
      by_cases h0 : 0 ≤ v2
      · obtain ⟨K, hK, rfl⟩ := nI_of (x := v2) (Int32.not_lt.mpr h0)
        refine br_f h1 (br_t h2' (br_t h0 (xw_insertAll (xw_Row_le hR h2) (fun tab' len' T l hA hD => xr_firstRows hK hA ?_))))
        have hpos := Nat.two_pow_pos P
        have e : ((1 : Int32) <<< (nI P &&& 31)) - 1 = nI (2 ^ P - 1) := by
          rw [yw_1l (by omega : P ≤ 10)]
          exact pk_sub (b := 1) (by omega)
        refine br_f h1 (br_t h2' (br_t h0 ?_))
        rw [e]
        refine yw_greatest (fl := true) hc (yq_lt (by omega : P ≤ 10)).1 hK hR.2.1 (fun M best' hM => ?_)
        exact ⟨congrArg nI (yq_rise h2 hD hM), rl_mk hR⟩
      · exact br_f h1 (br_t h2' (br_f h0 (br_f h1 (br_t h2' (br_f h0 ⟨rfl, rl_mk hR⟩)))))
    · have h2' : ¬ nI P ≤ nI c := nI_ge (by omega) hP
      exact br_f h1 (br_f h2' (br_f h1 (br_f h2' ⟨rfl, rl_mk hR⟩)))
section
variable {c K b : Nat} {f : Nat → Nat} {a1 a2 a3 a4 : Nat → Int32} {x1 : Int32}
theorem yq_11 {post : Int32 → SY → Prop} (hc : c ≤ 10) (hf : ∀ j, f j < 100) (hb : ∀ v, v < 100 → (x1 < nI v ↔ b ≤ v)) (hp : ∀ q, q < 2 ^ c → (∀ i, i < c → q.testBit i = decide (f i < b)) → wY_riseUpTo_51 post (nI K) (nI q) (nI c) (fun j => nI (f j)) a1 a2 a3 a4) :
    ∀ d i q, i + d = c → q < 2 ^ i → (∀ j, j < i → q.testBit j = decide (f j < b)) → wY_riseUpTo_11 post x1 (nI K) (nI c) (fun j => nI (f j)) a1 a2 a3 a4 (d + 1) (nI q) (nI i) := by
  intro d
  induction d with
  | zero =>
    intro i q hi hq hb'
    have e : i = c := by omega
    subst e
    unfold wY_riseUpTo_11
    exact br_t (nI_le (Nat.le_refl _) (by omega)) (hp q hq hb')
  | succ d ih =>
    intro i q hi hq hb'
    have ci : (nI i).toNatClampNeg = i := nI_clamp (by omega)
    have fi := hf i
    have h2 : 2 ^ (i + 1) = 2 ^ i + 2 ^ i := by rw [Nat.pow_succ]; omega
    unfold wY_riseUpTo_11
    simp only [ci, yw_1l (by omega : i ≤ 10), nx_or]
    refine br_f (nI_ge (by omega) (by omega)) (br_f (nI_ge (a := i) (b := 10) (by omega) (by omega)) ⟨vp_in_nI (by omega) (by omega), ?_⟩)
    by_cases h : f i < b
    · refine br_f (fun z => ?_) (fun x ex y ey => ?_)
      · have := (hb _ fi).mp z
        omega
      · subst ex ey
        rw [nI_1]
        refine ih (i + 1) _ (by omega) (Nat.or_lt_two_pow (by omega) (by omega)) (fun j hj => ?_)
        rw [Nat.testBit_or, Nat.testBit_two_pow]
        by_cases e : j = i
        · subst e
          simp [h]
        · rw [hb' j (by omega), decide_eq_false (by omega : ¬ i = j), Bool.or_false]
    · refine br_t ((hb _ fi).mpr (by omega)) (fun y ey => ?_)
      subst ey
      rw [nI_1]
      refine ih (i + 1) q (by omega) (by omega) (fun j hj => ?_)
      by_cases e : j = i
      · subst e
        rw [Nat.testBit_lt_two_pow hq, decide_eq_false h]
      · exact hb' j (by omega)
end
theorem i_vc_riseUpTo {k : Nat} {u : SX} {v : SY} (I : i_Rel k u v) (hk : k + 3 ≤ 1536) (v1 : Int32) (v2 : Int32) : wpX_riseUpTo (fun r u' => wpY_riseUpTo (fun r' v' => r' = r ∧ i_Rel (k + 3) u' v') v v1 v2) u v1 v2 := by
  obtain ⟨c, f, tab, len, bst, wys, bst', shp, wgt, wys', hR, rfl, rfl⟩ := I
  have hc := hR.1
  have h2 : 2 ^ c ≤ 2 ^ 10 := Nat.pow_le_pow_right (by omega) hc
  unfold wpX_riseUpTo wpY_riseUpTo
  by_cases h0 : 0 ≤ v2
  · obtain ⟨K, hK, rfl⟩ := nI_of (x := v2) (Int32.not_lt.mpr h0)
    obtain ⟨b, hb⟩ := xr_bnd v1
    refine br_t h0 (xw_insertAll hR (fun tab' len' T l hA hD => ⟨11, xr_21 hK hb hA (fun q hq => gt_Done_len hD hq) (fun r c' hr hc' => gt_Done_val hD hr hc') ?_ 10 0 rfl (Nat.zero_le _)⟩))
    refine br_t h0 ⟨c + 1, yq_11 hc hR.2.1 hb (fun q hq hqb => ?_) c 0 0 (by omega) (by decide) (fun _ h => absurd h (Nat.not_lt_zero _))⟩
    unfold wY_riseUpTo_51
    refine yw_greatest (fl := true) hc (by omega) hK hR.2.1 (fun M best' hM => ?_)
    refine ⟨congrArg nI (gr_eq hM ?_ ?_), rl_mk hR⟩
    · rw [bm_sel_lo hqb]
      exact gt_g_lo hD b K
    · intro t ht hg
      rw [bm_sel_lo hqb] at ht
      exact gt_g_up hD b K ht hg
  · exact br_f h0 (br_f h0 ⟨rfl, rl_mk hR⟩)
theorem i_vc_rises {k : Nat} {u : SX} {v : SY} (I : i_Rel k u v) (hk : k + 3 ≤ 1536) : wpX_rises (fun r u' => wpY_rises (fun r' v' => r' = r ∧ i_Rel (k + 3) u' v') v) u := by
  obtain ⟨c, f, tab, len, bst, wys, bst', shp, wgt, wys', hR, rfl, rfl⟩ := I
  have hc := hR.1
  unfold wpX_rises wpY_rises
  refine xw_insertAll hR (fun tab' len' T l hA hD => ⟨11, xr_rises hD.1 hA (fun q hq => gt_Done_len hD hq) ?_ 10 0 rfl (fun _ h => absurd h (Nat.not_lt_zero _))⟩)
  refine yq_whole hc (yw_run (fl := true) hc (yq_lt hc).2 hR.2.1 (fun m best' hm => ?_))
  rw [bm_sel_all f (Nat.le_refl c)] at hm
  refine ⟨congrArg nI ?_, rl_mk hR⟩
  exact rn_one (R := yw_R true) (R' := (· < ·)) (fun a b h h' => by
    have h1 : a > b := h
    omega) (fun a b h h' => by
    show a > b
    omega) (xw_Row_W hR).1 hm (gt_f_lo hD 1) (fun t ht hg => gt_f_up hD 1 ht hg)
theorem i_vc_falls {k : Nat} {u : SX} {v : SY} (I : i_Rel k u v) (hk : k + 3 ≤ 1536) : wpX_falls (fun r u' => wpY_falls (fun r' v' => r' = r ∧ i_Rel (k + 3) u' v') v) u := by
  obtain ⟨c, f, tab, len, bst, wys, bst', shp, wgt, wys', hR, rfl, rfl⟩ := I
  have hc := hR.1
  unfold wpX_falls wpY_falls
  refine xw_insertAll hR (fun tab' len' T l hA hD => ?_)
  refine yq_whole hc (yw_run (fl := false) hc (yq_lt hc).2 hR.2.1 (fun m best' hm => ?_))
  rw [bm_sel_all f (Nat.le_refl c)] at hm
  have e : m = gt_sum l (min 1 10) := rn_one (R := yw_R false) (R' := (· > ·)) (fun a b h h' => by
    have h1 : a < b := h
    omega) (fun a b h h' => by
    show a < b
    omega) (xw_Row_W hR).1 hm (gt_r_lo hD 1) (fun t ht hg => gt_r_up hD 1 ht hg)
  have e2 : gt_sum l (min 1 10) = l 0 := by
    show 0 + l 0 = l 0
    omega
  refine ⟨?_, rl_mk hR⟩
  rw [hA.1 0 (by omega), e, e2]
end
section
theorem gt_cnt_add (p : Nat → Bool) (a : Nat) : ∀ b, gt_cnt p (a + b) = gt_cnt p a + gt_cnt (fun i => p (a + i)) b := by
  intro b
  induction b with
  | zero => rfl
  | succ b ih => rw [← Nat.add_assoc, gt_cnt, gt_cnt, ih]; omega
theorem gt_cnt_zero {p : Nat → Bool} : ∀ n, (∀ i, i < n → p i = false) → gt_cnt p n = 0 := by
  intro n
  induction n with
  | zero => intro _; rfl
  | succ n ih =>
    intro h
    rw [gt_cnt, ih (fun i hi => h i (by omega)), h n (by omega)]
    rfl
theorem gt_cnt_pos {p : Nat → Bool} {i : Nat} (hp : p i = true) : ∀ n, i < n → 0 < gt_cnt p n := by
  intro n
  induction n with
  | zero => intro h; omega
  | succ n ih =>
    intro h
    rw [gt_cnt]
    by_cases e : i = n
    · subst e
      rw [if_pos hp]
      omega
    · have := ih (by omega)
      omega
theorem bm_top_idx {j p : Nat} (hp : p < 2 ^ j) : bm_idx (j + 1) (2 ^ j + p) = bm_idx j p ++ [j] := by
  have hpn : p.testBit j = false := Nat.testBit_lt_two_pow hp
  have hlo : ∀ i, i < j → (2 ^ j + p).testBit i = p.testBit i := fun i hi => Nat.testBit_two_pow_add_gt hi p
  have hn : (2 ^ j + p).testBit j = true := by rw [Nat.testBit_two_pow_add_eq, hpn]; rfl
  rw [bm_idx_t hn, bm_idx_cong hlo]
theorem bm_top_sel {f : Nat → Nat} {j p : Nat} (hp : p < 2 ^ j) : bm_sel f (j + 1) (2 ^ j + p) = bm_sel f j p ++ [f j] := by
  unfold bm_sel
  rw [bm_top_idx hp, List.map_append]
  rfl
theorem bm_low_idx {j p : Nat} (hp : p < 2 ^ j) : bm_idx (j + 1) p = bm_idx j p := bm_idx_f (Nat.testBit_lt_two_pow hp)
theorem bm_low_sel {f : Nat → Nat} {j p : Nat} (hp : p < 2 ^ j) : bm_sel f (j + 1) p = bm_sel f j p := bm_sel_f (Nat.testBit_lt_two_pow hp)
/-- rising parts with m members; with i behind them -/
def lr_p (f : Nat → Nat) (n m p : Nat) : Bool := decide ((bm_sel f n p).Pairwise (· < ·)) && decide ((bm_idx n p).length = m)
def lr_q (f : Nat → Nat) (i j m p : Nat) : Bool := decide ((bm_sel f j p ++ [f i]).Pairwise (· < ·)) && decide ((bm_idx j p).length + 1 = m)
def lr_C (f : Nat → Nat) (n m : Nat) : Nat := gt_cnt (lr_p f n m) (2 ^ n)
def lr_E (f : Nat → Nat) (i j m : Nat) : Nat := gt_cnt (lr_q f i j m) (2 ^ j)
theorem lr_p_iff {f : Nat → Nat} {n m p : Nat} : lr_p f n m p = true ↔ (bm_sel f n p).Pairwise (· < ·) ∧ (bm_idx n p).length = m := by
  unfold lr_p
  rw [Bool.and_eq_true, decide_eq_true_iff, decide_eq_true_iff]
theorem lr_2 (j : Nat) : 2 ^ (j + 1) = 2 ^ j + 2 ^ j := by rw [Nat.pow_succ]; omega
theorem lr_CS (f : Nat → Nat) (n m : Nat) : lr_C f (n + 1) m = lr_C f n m + lr_E f n n m := by
  unfold lr_C lr_E
  rw [lr_2, gt_cnt_add]
  congr 1
  · refine gt_cnt_cong _ (fun p hp => ?_)
    unfold lr_p
    rw [bm_low_sel hp, bm_low_idx hp]
  · refine gt_cnt_cong _ (fun p hp => ?_)
    unfold lr_p lr_q
    rw [bm_top_sel hp, bm_top_idx hp, List.length_append]
    rfl
theorem lr_ES (f : Nat → Nat) (i j m : Nat) (h : f j < f i) : lr_E f i (j + 1) m = lr_E f i j m + lr_E f j j (m - 1) := by
  unfold lr_E
  rw [lr_2, gt_cnt_add]
  congr 1
  · refine gt_cnt_cong _ (fun p hp => ?_)
    unfold lr_q
    rw [bm_low_sel hp, bm_low_idx hp]
  · refine gt_cnt_cong _ (fun p hp => ?_)
    unfold lr_q
    rw [bm_top_sel hp, bm_top_idx hp, List.length_append]
    congr 1
    · apply decide_eq_decide.mpr
      constructor
      · intro hq
        exact (List.pairwise_append.mp hq).1
      · intro hq
        refine List.pairwise_append.mpr ⟨hq, by simp, ?_⟩
        intro a ha b hb
        rw [List.mem_singleton.mp hb]
        rcases List.mem_append.mp ha with ha | ha
        · have := (List.pairwise_append.mp hq).2.2 a ha (f j) (by simp)
          omega
        · rw [List.mem_singleton.mp ha]
          exact h
    · apply decide_eq_decide.mpr
      simp only [List.length_cons, List.length_nil]
      omega
theorem lr_EN (f : Nat → Nat) (i j m : Nat) (h : ¬ f j < f i) : lr_E f i (j + 1) m = lr_E f i j m := by
  unfold lr_E
  rw [lr_2, gt_cnt_add]
  have e : gt_cnt (fun p => lr_q f i (j + 1) m (2 ^ j + p)) (2 ^ j) = 0 := by
    refine gt_cnt_zero _ (fun p hp => ?_)
    unfold lr_q
    rw [bm_top_sel hp, Bool.and_eq_false_iff]
    refine Or.inl (decide_eq_false (fun hq => h ?_))
    exact (List.pairwise_append.mp hq).2.2 (f j) (by simp) (f i) (by simp)
  rw [e, Nat.add_zero]
  refine gt_cnt_cong _ (fun p hp => ?_)
  unfold lr_q
  rw [bm_low_sel hp, bm_low_idx hp]
/-- the highest m where g isn't 0, and g there -/
def lr_Top (g : Nat → Nat) (M t : Nat) : Prop := g M = t ∧ 0 < t ∧ ∀ m, M < m → g m = 0
theorem lr_Top_u {g : Nat → Nat} {M t M' t' : Nat} (h : lr_Top g M t) (h' : lr_Top g M' t') : t = t' := by
  have e : M = M' := by
    rcases Nat.lt_trichotomy M M' with a | a | a
    · have := h.2.2 M' a
      have h1 := h'.1
      have h2 := h'.2.1
      omega
    · exact a
    · have := h'.2.2 M a
      have h1 := h.1
      have h2 := h.2.1
      omega
  subst e
  exact h.1.symm.trans h'.1
section
variable {g h : Nat → Nat} {M t B w : Nat}
theorem lr_gt (hg : lr_Top g M t) (hh : lr_Top h B w) (hb : M < B) : lr_Top (fun m => g m + h m) B w := by
  refine ⟨?_, hh.2.1, fun m hm => ?_⟩
  · show g B + h B = w
    have := hg.2.2 B hb
    have := hh.1
    omega
  · show g m + h m = 0
    have := hg.2.2 m (by omega)
    have := hh.2.2 m hm
    omega
theorem lr_eq (hg : lr_Top g M t) (hh : lr_Top h M w) : lr_Top (fun m => g m + h m) M (t + w) := by
  have h1 := hg.2.1
  refine ⟨?_, by omega, fun m hm => ?_⟩
  · show g M + h M = t + w
    have := hg.1
    have := hh.1
    omega
  · show g m + h m = 0
    have := hg.2.2 m hm
    have := hh.2.2 m hm
    omega
theorem lr_lt (hg : lr_Top g M t) (hh : lr_Top h B w) (hb : B < M) : lr_Top (fun m => g m + h m) M t := by
  refine ⟨?_, hg.2.1, fun m hm => ?_⟩
  · show g M + h M = t
    have := hh.2.2 M hb
    have := hg.1
    omega
  · show g m + h m = 0
    have := hg.2.2 m hm
    have := hh.2.2 m (by omega)
    omega
theorem lr_sh (hg : lr_Top g B w) : lr_Top (fun m => g (m - 1)) (B + 1) w :=
  ⟨hg.1, hg.2.1, fun m hm => hg.2.2 (m - 1) (by omega)⟩
end
theorem lr_C0 (f : Nat → Nat) : lr_Top (lr_C f 0) 0 1 := by
  have e : ∀ m, lr_C f 0 m = if m = 0 then 1 else 0 := by
    intro m
    show 0 + (if lr_p f 0 m 0 = true then 1 else 0) = _
    by_cases h : m = 0
    · subst h
      have hz : lr_p f 0 0 0 = true := lr_p_iff.mpr ⟨List.Pairwise.nil, rfl⟩
      rw [if_pos hz, if_pos rfl]
    · rw [if_neg (fun z => h (lr_p_iff.mp z).2.symm), if_neg h]
  refine ⟨by rw [e]; rfl, by omega, fun m hm => ?_⟩
  rw [e, if_neg (by omega)]
theorem lr_E0 (f : Nat → Nat) (i : Nat) : lr_Top (lr_E f i 0) 1 1 := by
  have e : ∀ m, lr_E f i 0 m = if m = 1 then 1 else 0 := by
    intro m
    have e2 : lr_q f i 0 m 0 = decide (m = 1) := by
      unfold lr_q
      have : (bm_sel f 0 0 ++ [f i]).Pairwise (· < ·) := by
        show ([f i] : List Nat).Pairwise (· < ·)
        simp
      rw [decide_eq_true this, Bool.true_and]
      apply decide_eq_decide.mpr
      show 0 + 1 = m ↔ m = 1
      omega
    show 0 + (if lr_q f i 0 m 0 = true then 1 else 0) = _
    rw [e2]
    by_cases h : m = 1
    · rw [if_pos (decide_eq_true h), if_pos h]
    · rw [if_neg (fun z => h (of_decide_eq_true z)), if_neg h]
  refine ⟨by rw [e]; rfl, by omega, fun m hm => ?_⟩
  rw [e, if_neg (by omega)]
/-- what best and ways hold below i -/
def lr_Arr (f : Nat → Nat) (best ways : Nat → Int32) (i : Nat) : Prop :=
  ∀ j, j < i → ∃ B w, best j = nI B ∧ ways j = nI w ∧ lr_Top (lr_E f j j) B w ∧ B ≤ j + 1
section
variable {c i j M t B w Bj wj : Nat} {f : Nat → Nat} {fc : Int32} {row tab len best ways : Nat → Int32}
theorem xl_ext {post : SX → Prop} (hi : i < 10) (hj : j < 10) (hB : B < 100) (hBj : Bj < 100) (e1 : best i = nI B) (e2 : ways i = nI w) (e3 : best j = nI Bj) (e4 : ways j = nI wj)
    (h1 : B < Bj + 1 → post (fc, row, tab, len, upd best i (nI (Bj + 1)), upd ways i (nI wj))) (h2 : Bj + 1 = B → post (fc, row, tab, len, best, upd ways i (nI (w + wj)))) (h3 : Bj + 1 < B → post (fc, row, tab, len, best, ways)) : wpX_extend post (fc, row, tab, len, best, ways) (nI j) (nI i) := by
  have ci : (nI i).toNatClampNeg = i := nI_clamp (by omega)
  have cj : (nI j).toNatClampNeg = j := nI_clamp (by omega)
  unfold wpX_extend
  simp only [ci, cj, e1, e2, e3, e4, nI_1, nI_add]
  have vi : vp_in (nI i) 10 := vp_in_nI hi (by omega)
  have vj : vp_in (nI j) 10 := vp_in_nI hj (by omega)
  refine ⟨vj, vi, pk_le (Bj + 1) B (fun h => ⟨vj, vi, pk_eq (Bj + 1) B (fun h' => ⟨vi, vj, vi, fun a ea => ?_⟩) (fun h' => h3 (by omega))⟩) (fun h => ⟨vj, vi, fun a ea => ⟨vj, vi, fun b eb => ?_⟩⟩)⟩
  · subst ea
    exact h2 h'
  · subst ea eb
    exact h1 h
theorem xl_85 {post : Int32 → SX → Prop} {J6 : Int32 → Int32 → Int32 → Int32 → (Nat → Int32) → (Nat → Int32) → (Nat → Int32) → (Nat → Int32) → (Nat → Int32) → Prop} (hi : i < 10) (hB : B < 100) (hM : M < 100) (e1 : best i = nI B) (e2 : ways i = nI w) (h1 : B = M → J6 (nI M) (nI (t + w)) (nI (i + 1)) fc row tab len best ways) (h2 : B ≠ M → J6 (nI M) (nI t) (nI (i + 1)) fc row tab len best ways) : wX_longestRises_85 post J6 (nI M) (nI t) (nI i) fc row tab len best ways := by
  have ci : (nI i).toNatClampNeg = i := nI_clamp (by omega)
  have vi : vp_in (nI i) 10 := vp_in_nI hi (by omega)
  unfold wX_longestRises_85
  simp only [ci, e1, e2, nI_1, nI_add, Int32.add_zero]
  refine ⟨vi, pk_eq B M (fun h => ⟨vi, fun x ex y ey => ?_⟩) (fun h x ex y ey => ?_)⟩
  · subst ex ey
    exact h1 h
  · subst ex ey
    exact h2 h
theorem xl_31 {post : Int32 → SX → Prop} {J6 : Int32 → Int32 → Int32 → Int32 → (Nat → Int32) → (Nat → Int32) → (Nat → Int32) → (Nat → Int32) → (Nat → Int32) → Prop} (hi : i < 10) (hf : ∀ j, f j < 100) (hM : M ≤ i) (hC : lr_Top (lr_C f i) M t)
    (hJ : ∀ best' ways' M' t', lr_Top (lr_C f (i + 1)) M' t' → M' ≤ i + 1 → lr_Arr f best' ways' (i + 1) → J6 (nI M') (nI t') (nI (i + 1)) fc (fun j => nI (f j)) tab len best' ways') :
    ∀ d j B w best ways, j + d = i → best i = nI B → ways i = nI w → lr_Top (lr_E f i j) B w → B ≤ j + 1 → lr_Arr f best ways i → wX_longestRises_31 post J6 (nI M) (nI t) (nI i) (d + 1) (nI j) fc (fun j => nI (f j)) tab len best ways := by
  have ci : (nI i).toNatClampNeg = i := nI_clamp (by omega)
  have vi : vp_in (nI i) 10 := vp_in_nI hi (by omega)
  have eC : lr_C f (i + 1) = fun m => lr_C f i m + lr_E f i i m := by funext m; exact lr_CS f i m
  intro d
  induction d with
  | zero =>
    intro j B w best ways hj e1 e2 hE hB hA
    have e : j = i := by omega
    subst e
    have hA' : lr_Arr f best ways (j + 1) := fun q hq => by
      by_cases e : q = j
      · subst e
        exact ⟨B, w, e1, e2, hE, hB⟩
      · exact hA q (by omega)
    unfold wX_longestRises_31
    simp only [ci, e1]
    refine br_t (nI_le (Nat.le_refl _) (by omega)) ⟨vi, pk_le B M (fun h => ?_) (fun h => ⟨vi, fun x ex => ?_⟩)⟩
    · refine xl_85 hi (by omega) (by omega) e1 e2 (fun h' => ?_) (fun h' => ?_)
      · subst h'
        exact hJ best ways B (t + w) (by rw [eC]; exact lr_eq hC hE) (by omega) hA'
      · exact hJ best ways M t (by rw [eC]; exact lr_lt hC hE (by omega)) (by omega) hA'
    · subst ex
      refine xl_85 (t := 0) hi (by omega) (by omega) e1 e2 (fun h' => ?_) (fun h' => absurd rfl h')
      rw [Nat.zero_add]
      exact hJ best ways B w (by rw [eC]; exact lr_gt hC hE h) (by omega) hA'
  | succ d ih =>
    intro j B w best ways hj e1 e2 hE hB hA
    have cj : (nI j).toNatClampNeg = j := nI_clamp (by omega)
    have vj : vp_in (nI j) 10 := vp_in_nI (by omega) (by omega)
    have fi := hf i
    have fj := hf j
    unfold wX_longestRises_31
    simp only [ci, cj]
    refine br_f (nI_ge (by omega) (by omega)) ⟨vj, vi, pk_le (f i) (f j) (fun h x ex => ?_) (fun h => ?_)⟩
    · subst ex
      rw [nI_1]
      have eE : lr_E f i (j + 1) = lr_E f i j := by funext m; exact lr_EN f i j m (by omega)
      exact ih (j + 1) B w best ways (by omega) e1 e2 (by rw [eE]; exact hE) (by omega) hA
    · obtain ⟨Bj, wj, e3, e4, hEj, hBj⟩ := hA j (by omega)
      have eE : lr_E f i (j + 1) = fun m => lr_E f i j m + lr_E f j j (m - 1) := by funext m; exact lr_ES f i j m h
      have hsh := lr_sh hEj
      refine xl_ext (B := B) (w := w) (Bj := Bj) (wj := wj) hi (by omega) (by omega) (by omega) e1 e2 e3 e4 (fun h' x ex => ?_) (fun h' x ex => ?_) (fun h' x ex => ?_)
      · subst ex
        rw [nI_1]
        refine ih (j + 1) (Bj + 1) wj (upd best i (nI (Bj + 1))) (upd ways i (nI wj)) (by omega) pk_us pk_us (by rw [eE]; exact lr_gt hE hsh h') (by omega) (fun q hq => ?_)
        rw [pk_un (by omega), pk_un (by omega)]
        exact hA q hq
      · subst ex
        rw [nI_1]
        subst h'
        refine ih (j + 1) (Bj + 1) (w + wj) best (upd ways i (nI (w + wj))) (by omega) e1 pk_us (by rw [eE]; exact lr_eq hE hsh) (by omega) (fun q hq => ?_)
        rw [pk_un (by omega)]
        exact hA q hq
      · subst ex
        rw [nI_1]
        exact ih (j + 1) B w best ways (by omega) e1 e2 (by rw [eE]; exact lr_lt hE hsh h') (by omega) hA
theorem xl_6 {post : Int32 → SX → Prop} (hc : c ≤ 10) (hf : ∀ j, f j < 100) (hpost : ∀ M t best' ways', lr_Top (lr_C f c) M t → post (nI t) (nI c, (fun j => nI (f j)), tab, len, best', ways')) :
    ∀ d i M t best ways, i + d = c → lr_Top (lr_C f i) M t → M ≤ i → lr_Arr f best ways i → wX_longestRises_6 post (d + 1) (nI M) (nI t) (nI i) (nI c) (fun j => nI (f j)) tab len best ways := by
  intro d
  induction d with
  | zero =>
    intro i M t best ways hi hC hM hA
    have e : i = c := by omega
    subst e
    unfold wX_longestRises_6
    exact br_t (nI_le (Nat.le_refl _) (by omega)) (hpost M t best ways hC)
  | succ d ih =>
    intro i M t best ways hi hC hM hA
    have ci : (nI i).toNatClampNeg = i := nI_clamp (by omega)
    have vi : vp_in (nI i) 10 := vp_in_nI (by omega) (by omega)
    unfold wX_longestRises_6
    simp only [ci]
    refine br_f (nI_ge (by omega) (by omega)) ⟨vi, fun a ea => ⟨vi, fun b eb => ⟨i + 1, ?_⟩⟩⟩
    subst ea eb
    refine xl_31 (by omega) hf hM hC (fun best' ways' M' t' h1 h2 h3 => ih (i + 1) M' t' best' ways' (by omega) h1 h2 h3) i 0 1 1 _ _ (by omega) pk_us pk_us (lr_E0 f i) (by omega) (fun q hq => ?_)
    rw [pk_un (by omega), pk_un (by omega)]
    exact hA q hq
end
theorem lr_good {t : List Nat} (hn : t.Nodup) : kn_Good (yw_R true) 1 t ↔ t.Pairwise (· < ·) := by
  constructor
  · intro g
    refine List.pairwise_of_forall_sublist ?_
    intro a b hab
    have hne : a ≠ b := by
      have := hn.sublist hab
      simpa using this
    apply Classical.byContradiction
    intro h
    have h3 : [a, b].length ≤ 1 := g [a, b] hab (by
      rw [List.pairwise_pair]
      show a > b
      omega)
    simp at h3
  · intro hp s hs h4
    have h5 := hp.sublist hs
    match s, h4, h5 with
    | [], _, _ => exact Nat.zero_le _
    | [a], _, _ => exact Nat.le_refl _
    | a :: b :: r, h4, h5 =>
      have h6 : a > b := (List.pairwise_cons.mp h4).1 b (by simp)
      have h7 := (List.pairwise_cons.mp h5).1 b (by simp)
      omega
theorem lr_nodup {f : Nat → Nat} {c p : Nat} (h : xw_Row f c) : (bm_sel f c p).Nodup := by
  have h1 : (bm_sel f c p).Sublist ((List.range c).map f) := List.filter_sublist.map f
  exact (xw_Row_W h).1.sublist h1
section
variable {n : Nat} {f : Nat → Nat} {shape weight ways : Nat → Int32}
theorem yl_6 {post : Int32 → SY → Prop} (hR : xw_Row f n) (hpost : ∀ M t best', lr_Top (lr_C f n) M t → post (nI t) (nI n, (fun j => nI (f j)), best', shape, weight, ways)) :
    ∀ d p M best, p + d = 2 ^ n → (∀ p', p' < p → (bm_sel f n p').Pairwise (· < ·) → (bm_idx n p').length ≤ M) → (M = 0 ∨ ∃ p', p' < p ∧ lr_p f n M p' = true) → wY_longestRises_6 post (d + 1) (nI M) (nI (gt_cnt (lr_p f n M) p)) (nI p) (nI n) (fun j => nI (f j)) best shape weight ways := by
  have hn := hR.1
  have h2 : 2 ^ n ≤ 2 ^ 10 := Nat.pow_le_pow_right (by omega) hn
  intro d
  induction d with
  | zero =>
    intro p M best hp hU hE
    have hp' : p = 2 ^ n := by omega
    subst hp'
    unfold wY_longestRises_6
    rw [yw_1l hn]
    refine br_t (nI_le (Nat.le_refl _) (by omega)) (hpost M _ best ⟨rfl, ?_, fun m hm => ?_⟩)
    · rcases hE with h | ⟨p', h1, h3⟩
      · subst h
        refine gt_cnt_pos (i := 0) ?_ _ (Nat.two_pow_pos n)
        have e : bm_idx n 0 = [] := by
          apply List.filter_eq_nil_iff.mpr
          intro a _
          simp
        rw [lr_p_iff]
        unfold bm_sel
        rw [e]
        exact ⟨List.Pairwise.nil, rfl⟩
      · exact gt_cnt_pos h3 _ h1
    · refine gt_cnt_zero _ (fun p' hp' => ?_)
      apply Bool.eq_false_iff.mpr
      intro z
      have z' := lr_p_iff.mp z
      have := hU p' hp' z'.1
      omega
  | succ d ih =>
    intro p M best hp hU hE
    have hl := bm_len_le n p
    have hM : M ≤ 10 := by
      rcases hE with h | ⟨p', h1, h3⟩
      · omega
      · have h4 := (lr_p_iff.mp h3).2
        have h5 := bm_len_le n p'
        omega
    have skip : ∀ best', ((bm_sel f n p).Pairwise (· < ·) → (bm_idx n p).length < M) → ∀ x, x = nI p + 1 → wY_longestRises_6 post (d + 1) (nI M) (nI (gt_cnt (lr_p f n M) p)) x (nI n) (fun j => nI (f j)) best' shape weight ways := by
      intro best' hs x ex
      subst ex
      rw [nI_1]
      have e : gt_cnt (lr_p f n M) p = gt_cnt (lr_p f n M) (p + 1) := by
        rw [gt_cnt, if_neg (fun z => by
          have z' := lr_p_iff.mp z
          have := hs z'.1
          omega), Nat.add_zero]
      rw [e]
      refine ih (p + 1) M best' (by omega) (fun p' h3 h4 => ?_) ?_
      · by_cases e' : p' = p
        · subst e'
          have := hs h4
          omega
        · exact hU p' (by omega) h4
      · rcases hE with h | ⟨p', h1, h3⟩
        · exact Or.inl h
        · exact Or.inr ⟨p', by omega, h3⟩
    unfold wY_longestRises_6
    rw [yw_1l hn]
    refine br_f (nI_ge (by omega) (by omega)) (yw_size hn (by omega) (pk_lt (bm_idx n p).length M (fun h => skip best (fun _ => h)) (fun h => ?_)))
    refine yw_run (fl := true) hn (by omega) hR.2.1 (fun m best' hm => ?_)
    have hg := (rn_good (k := 1) hm).symm.trans (lr_good (lr_nodup hR))
    have hml : m ≤ 10 := by
      have h1 := rn_Is_len hm
      unfold bm_sel at h1
      rw [List.length_map] at h1
      omega
    refine pk_lt 1 m (fun h3 => skip best' (fun z => by
      have := hg.mpr z
      omega)) (fun h3 => ?_)
    have hpw := hg.mp h3
    refine pk_le (bm_idx n p).length M (fun h4 x ex y ey => ?_) (fun h4 x ex y ey => ?_)
    · subst ex ey
      have e : (bm_idx n p).length = M := by omega
      have e2 : gt_cnt (lr_p f n M) p + 1 = gt_cnt (lr_p f n M) (p + 1) := by
        rw [gt_cnt, if_pos (lr_p_iff.mpr ⟨hpw, e⟩)]
      rw [nI_1, nI_1, e2, e]
      refine ih (p + 1) M best' (by omega) (fun p' h5 h6 => ?_) (Or.inr ⟨p, by omega, lr_p_iff.mpr ⟨hpw, e⟩⟩)
      by_cases e' : p' = p
      · subst e'
        omega
      · exact hU p' (by omega) h6
    · subst ex ey
      have e2 : 1 = gt_cnt (lr_p f n (bm_idx n p).length) (p + 1) := by
        rw [gt_cnt, if_pos (lr_p_iff.mpr ⟨hpw, rfl⟩), gt_cnt_zero p (fun p' hp' => ?_)]
        apply Bool.eq_false_iff.mpr
        intro z
        have z' := lr_p_iff.mp z
        have := hU p' hp' z'.1
        omega
      have e3 : (0 : Int32) + 1 = nI (gt_cnt (lr_p f n (bm_idx n p).length) (p + 1)) := by
        rw [← e2]
        rfl
      rw [e3, nI_1]
      refine ih (p + 1) _ best' (by omega) (fun p' h5 h6 => ?_) (Or.inr ⟨p, by omega, lr_p_iff.mpr ⟨hpw, rfl⟩⟩)
      by_cases e' : p' = p
      · subst e'
        exact Nat.le_refl _
      · have := hU p' (by omega) h6
        omega
end
theorem i_vc_longestRises {k : Nat} {u : SX} {v : SY} (I : i_Rel k u v) (hk : k + 3 ≤ 1536) : wpX_longestRises (fun r u' => wpY_longestRises (fun r' v' => r' = r ∧ i_Rel (k + 3) u' v') v) u := by
  obtain ⟨c, f, tab, len, bst, wys, bst', shp, wgt, wys', hR, rfl, rfl⟩ := I
  refine ⟨c + 1, xl_6 hR.1 hR.2.1 (fun M t best' ways' hT => ?_) c 0 0 1 bst wys (by omega) (lr_C0 f) (Nat.le_refl _) (fun _ h => absurd h (Nat.not_lt_zero _))⟩
  refine ⟨2 ^ c + 1, yl_6 hR (fun M' t' best'' hT' => ?_) (2 ^ c) 0 0 bst' (by omega) (fun _ h => absurd h (Nat.not_lt_zero _)) (Or.inl rfl)⟩
  exact ⟨congrArg nI (lr_Top_u hT' hT), rl_mk hR⟩
end
section
/-- mixed digits: the weights, the digit k of x -/
def hk_w (s : Nat → Nat) : Nat → Nat
  | 0 => 1
  | k + 1 => hk_w s k * (s k + 1)
def hk_d (s : Nat → Nat) (k x : Nat) : Nat := x / hk_w s k % (s k + 1)
theorem hk_wpos (s : Nat → Nat) : ∀ k, 0 < hk_w s k := by
  intro k
  induction k with
  | zero => exact Nat.one_pos
  | succ k ih => exact Nat.mul_pos ih (Nat.succ_pos _)
theorem hk_wdv (s : Nat → Nat) {j : Nat} : ∀ k, j < k → ∃ m, hk_w s k = hk_w s j * ((s j + 1) * m) := by
  intro k
  induction k with
  | zero => intro h; omega
  | succ k ih =>
    intro h
    by_cases e : j = k
    · subst e
      exact ⟨1, by rw [hk_w, Nat.mul_one]⟩
    · obtain ⟨m, hm⟩ := ih (by omega)
      exact ⟨m * (s k + 1), by rw [hk_w, hm, Nat.mul_assoc, Nat.mul_assoc]⟩
theorem hk_m1 {a n : Nat} (h : a % n + 1 < n) : (a + 1) % n = a % n + 1 ∧ (a + 1) / n = a / n := by
  have e : a + 1 = n * (a / n) + (a % n + 1) := by
    have := Nat.div_add_mod a n
    omega
  constructor
  · have e1 := congrArg (· % n) e
    simp only [Nat.mul_add_mod] at e1
    rw [e1, Nat.mod_eq_of_lt h]
  · have e1 := congrArg (· / n) e
    simp only [Nat.mul_add_div (by omega : n > 0)] at e1
    rw [e1, Nat.div_eq_of_lt h, Nat.add_zero]
section
variable {s : Nat → Nat} {j k x y K : Nat}
theorem hk_up_k (h : hk_d s k x < s k) : hk_d s k (x + hk_w s k) = hk_d s k x + 1 := by
  unfold hk_d at h ⊢
  rw [Nat.add_div_right _ (hk_wpos s k)]
  exact (hk_m1 (by omega)).1
theorem hk_up_lt (h : j < k) : hk_d s j (x + hk_w s k) = hk_d s j x := by
  obtain ⟨m, e⟩ := hk_wdv s k h
  unfold hk_d
  rw [e, Nat.add_mul_div_left _ _ (hk_wpos s j), Nat.add_mul_mod_self_left]
theorem hk_up_div (h : hk_d s k x < s k) (m : Nat) : (x + hk_w s k) / (hk_w s k * ((s k + 1) * m)) = x / (hk_w s k * ((s k + 1) * m)) := by
  unfold hk_d at h
  rw [← Nat.div_div_eq_div_mul, ← Nat.div_div_eq_div_mul, ← Nat.div_div_eq_div_mul, ← Nat.div_div_eq_div_mul, Nat.add_div_right _ (hk_wpos s k), (hk_m1 (by omega)).2]
theorem hk_up_gt (h : hk_d s k x < s k) (hj : k < j) : hk_d s j (x + hk_w s k) = hk_d s j x := by
  obtain ⟨m, e⟩ := hk_wdv s j hj
  unfold hk_d
  rw [e, hk_up_div h]
theorem hk_up_bd (h : hk_d s k x < s k) (hk : k < K) (hx : x < hk_w s K) : x + hk_w s k < hk_w s K := by
  obtain ⟨m, e⟩ := hk_wdv s K hk
  have h1 := hk_up_div h m
  rw [← e, Nat.div_eq_of_lt hx] at h1
  apply Classical.byContradiction
  intro hn
  have := Nat.div_pos (by omega : hk_w s K ≤ x + hk_w s k) (hk_wpos s K)
  omega
theorem hk_up_ne (h : hk_d s k x < s k) (hj : j ≠ k) : hk_d s j (x + hk_w s k) = hk_d s j x := by
  rcases Nat.lt_or_gt_of_ne hj with a | a
  · exact hk_up_lt a
  · exact hk_up_gt h a
theorem hk_dn (h : 0 < hk_d s k y) : hk_w s k ≤ y ∧ hk_d s k (y - hk_w s k) + 1 = hk_d s k y ∧ hk_d s k (y - hk_w s k) < s k := by
  have hw := hk_wpos s k
  have hle : hk_w s k ≤ y := by
    apply Classical.byContradiction
    intro hn
    unfold hk_d at h
    rw [Nat.div_eq_of_lt (by omega), Nat.zero_mod] at h
    omega
  have e := Nat.div_eq_sub_div hw hle
  unfold hk_d at h ⊢
  rw [e] at h ⊢
  generalize (y - hk_w s k) / hk_w s k = b at h ⊢
  have hb : b % (s k + 1) < s k + 1 := Nat.mod_lt _ (Nat.succ_pos _)
  have hlt : b % (s k + 1) + 1 < s k + 1 := by
    apply Classical.byContradiction
    intro hn
    have e1 : b % (s k + 1) = s k := by omega
    have e2 := Nat.div_add_mod b (s k + 1)
    have e3 : b + 1 = (s k + 1) * (b / (s k + 1) + 1) := by
      rw [Nat.mul_add, Nat.mul_one]
      omega
    rw [e3, Nat.mul_mod_right] at h
    omega
  exact ⟨hle, (hk_m1 hlt).1.symm, by omega⟩
theorem hk_dle : hk_d s k x ≤ s k := by
  have : x / hk_w s k % (s k + 1) < s k + 1 := Nat.mod_lt _ (Nat.succ_pos _)
  unfold hk_d
  omega
theorem hk_d0 : hk_d s k 0 = 0 := by
  unfold hk_d
  rw [Nat.zero_div, Nat.zero_mod]
theorem hk_zero : ∀ K, (∀ k, k < K → hk_d s k y = 0) → y % hk_w s K = 0 := by
  intro K
  induction K with
  | zero => intro _; exact Nat.mod_one y
  | succ K ih =>
    intro h
    have h1 := h K (by omega)
    unfold hk_d at h1
    rw [hk_w, Nat.mod_mul, ih (fun k hk => h k (by omega)), h1, Nat.mul_zero]
theorem hk_top (hk : k < K) : hk_d s k (hk_w s K - 1) = s k := by
  obtain ⟨m, e⟩ := hk_wdv s K hk
  have hp := hk_wpos s K
  have hw := hk_wpos s k
  have hm : 0 < m := by
    apply Classical.byContradiction
    intro hn
    have : m = 0 := by omega
    subst this
    rw [e] at hp
    simp at hp
  obtain ⟨q, rfl⟩ : ∃ q, m = q + 1 := ⟨m - 1, by omega⟩
  have h1 := Nat.mul_sub_div 0 (hk_w s k) ((s k + 1) * (q + 1)) (by rw [← e]; exact hp)
  rw [Nat.zero_add, Nat.zero_div, Nat.zero_add] at h1
  have e2 : (s k + 1) * (q + 1) - 1 = (s k + 1) * q + s k := by
    rw [Nat.mul_add, Nat.mul_one]
    omega
  unfold hk_d
  rw [e, h1, e2, Nat.mul_add_mod, Nat.mod_eq_of_lt (by omega)]
theorem hk_wle : ∀ k, hk_w s k ≤ 2 ^ gt_sum s k := by
  intro k
  induction k with
  | zero => exact Nat.le_refl _
  | succ k ih =>
    rw [hk_w, gt_sum, Nat.pow_add]
    exact Nat.mul_le_mul ih Nat.lt_two_pow_self
end
/-- hooks, and X's value: the factorial divided by one hook after another -/
def hk_hook (l : Nat → Nat) (r c : Nat) : Nat := l r - c + gt_cnt (fun i => decide (c < l (r + 1 + i))) (9 - r)
def hk_in (l : Nat → Nat) (r : Nat) : Nat → Nat → Nat
  | 0, x => x
  | c + 1, x => hk_in l r c x / hk_hook l r c
def hk_out (l : Nat → Nat) : Nat → Nat → Nat
  | 0, x => x
  | r + 1, x => hk_in l r (l r) (hk_out l r x)
def hk_fact : Nat → Nat
  | 0 => 1
  | n + 1 => hk_fact n * (n + 1)
def hk_H (l : Nat → Nat) : Nat := hk_out l 10 (hk_fact (gt_sum l 10))
section
variable {l l' : Nat → Nat}
theorem hk_hook_cong (h : ∀ i, i < 10 → l i = l' i) {r : Nat} (hr : r < 10) (c : Nat) : hk_hook l r c = hk_hook l' r c := by
  unfold hk_hook
  rw [h r hr, gt_cnt_cong (9 - r) (fun i hi => by rw [h (r + 1 + i) (by omega)])]
theorem hk_in_cong (h : ∀ i, i < 10 → l i = l' i) {r : Nat} (hr : r < 10) (x : Nat) : ∀ c, hk_in l r c x = hk_in l' r c x := by
  intro c
  induction c with
  | zero => rfl
  | succ c ih => rw [hk_in, hk_in, ih, hk_hook_cong h hr]
theorem hk_out_cong (h : ∀ i, i < 10 → l i = l' i) (x : Nat) : ∀ r, r ≤ 10 → hk_out l r x = hk_out l' r x := by
  intro r
  induction r with
  | zero => intro _; rfl
  | succ r ih => intro hr; rw [hk_out, hk_out, ih (by omega), hk_in_cong h (by omega), h r (by omega)]
theorem hk_H_cong (h : ∀ i, i < 10 → l i = l' i) : hk_H l = hk_H l' := by
  unfold hk_H
  rw [hk_out_cong h _ 10 (Nat.le_refl _), gt_sum_cong 10 h]
theorem hk_in_le (l : Nat → Nat) (r x : Nat) : ∀ c, hk_in l r c x ≤ x := by
  intro c
  induction c with
  | zero => exact Nat.le_refl _
  | succ c ih => exact Nat.le_trans (Nat.div_le_self _ _) ih
theorem hk_out_le (l : Nat → Nat) (x : Nat) : ∀ r, hk_out l r x ≤ x := by
  intro r
  induction r with
  | zero => exact Nat.le_refl _
  | succ r ih => exact Nat.le_trans (hk_in_le _ _ _ _) ih
theorem hk_fact_le : ∀ n, n ≤ 10 → hk_fact n ≤ 3628800 := by
  intro n h
  have : ∀ n, n < 11 → hk_fact n ≤ 3628800 := by decide
  exact this n (by omega)
theorem hk_H_le (h : gt_sum l 10 ≤ 10) : hk_H l ≤ 3628800 := Nat.le_trans (hk_out_le _ _ _) (hk_fact_le _ h)
end
def hk_dec (l : Nat → Nat) (k : Nat) : Nat → Nat := fun i => if i = k then l k - 1 else l i
/-- the number of fillings by the place of the last number -/
def hk_P (l : Nat → Nat) : Bool := Nat.beq (hk_H l) ((if gt_sum l 10 = 0 then 1 else 0) + gt_sum (fun k => if l (k + 1) < l k then hk_H (hk_dec l k) else 0) 10)
def hk_chk : Nat → Nat → Nat → List Nat → Bool
  | 0, _, _, q => hk_P (fun i => q.getD i 0)
  | d + 1, m, e, q => (List.range (min m e + 1)).all (fun a => hk_chk d a (e - a) (q ++ [a]))
theorem hk_ok : hk_chk 10 10 10 [] = true := by decide +kernel
end
section
theorem hk_snd : ∀ d m e q, hk_chk d m e q = true → ∀ t : List Nat, t.length = d → (m :: t).Pairwise (· ≥ ·) → t.sum ≤ e → hk_P (fun i => (q ++ t).getD i 0) = true := by
  intro d
  induction d with
  | zero =>
    intro m e q h t ht _ _
    have e0 : t = [] := List.eq_nil_of_length_eq_zero ht
    subst e0
    rw [List.append_nil]
    exact h
  | succ d ih =>
    intro m e q h t ht hp hs
    cases t with
    | nil => simp at ht
    | cons a t =>
      rw [hk_chk, List.all_eq_true] at h
      have h1 := (List.pairwise_cons.mp hp).1 a (by simp)
      rw [List.sum_cons] at hs
      have h2 := h a (List.mem_range.mpr (by omega))
      have h3 := ih a (e - a) (q ++ [a]) h2 t (by simpa using ht) (List.pairwise_cons.mp hp).2 (by omega)
      rw [List.append_assoc] at h3
      exact h3
theorem hk_lsum (l : Nat → Nat) : ∀ n, ((List.range n).map l).sum = gt_sum l n := by
  intro n
  induction n with
  | zero => rfl
  | succ n ih => rw [List.range_succ, List.map_append, List.sum_append, ih, gt_sum]; simp
theorem hk_mono {l : Nat → Nat} (hm : ∀ i, i < 10 → l (i + 1) ≤ l i) {i : Nat} : ∀ j, i ≤ j → j ≤ 10 → l j ≤ l i := by
  intro j
  induction j with
  | zero => intro h _; have : i = 0 := by omega
            subst this; exact Nat.le_refl _
  | succ j ih =>
    intro h1 h2
    by_cases e : i = j + 1
    · subst e; exact Nat.le_refl _
    · have a := ih (by omega) (by omega)
      have b := hm j (by omega)
      omega
theorem hk_ite {P Q : Prop} [Decidable P] [Decidable Q] {a : Nat} (h : P ↔ Q) : (if P then a else 0) = if Q then a else 0 := by
  by_cases p : P
  · rw [if_pos p, if_pos (h.mp p)]
  · rw [if_neg p, if_neg (fun q => p (h.mpr q))]
theorem hk_rec {l : Nat → Nat} (hm : ∀ i, i < 10 → l (i + 1) ≤ l i) (h10 : l 10 = 0) (hs : gt_sum l 10 ≤ 10) : hk_H l = (if gt_sum l 10 = 0 then 1 else 0) + gt_sum (fun k => if l (k + 1) < l k then hk_H (hk_dec l k) else 0) 10 := by
  have h := hk_snd 10 10 10 [] hk_ok ((List.range 10).map l) (by simp) (by
    rw [List.pairwise_cons]
    refine ⟨fun a ha => ?_, ?_⟩
    · obtain ⟨i, hi, rfl⟩ := List.mem_map.mp ha
      have := gt_sum_mem (f := l) (List.mem_range.mp hi)
      omega
    · rw [List.pairwise_map]
      refine List.pairwise_lt_range.imp_of_mem ?_
      intro a b ha hb hab
      have := List.mem_range.mp hb
      exact hk_mono hm b (by omega) (by omega)) (by rw [hk_lsum]; exact hs)
  have eq : ∀ i, i ≤ 10 → ((List.range 10).map l).getD i 0 = l i := by
    intro i hi
    by_cases e : i < 10
    · simp [List.getD_eq_getElem?_getD, e]
    · have e2 : i = 10 := by omega
      subst e2
      rw [h10]
      rfl
  rw [List.nil_append] at h
  generalize hl : (fun i => ((List.range 10).map l).getD i 0) = l' at h
  have eq' : ∀ i, i ≤ 10 → l' i = l i := fun i hi => by rw [← hl]; exact eq i hi
  unfold hk_P at h
  have e := Nat.eq_of_beq_eq_true h
  rw [hk_H_cong (l := l') (l' := l) (fun i hi => eq' i (by omega)), gt_sum_cong (f := l') (g := l) 10 (fun i hi => eq' i (by omega))] at e
  rw [e]
  congr 1
  refine gt_sum_cong 10 (fun k hk => ?_)
  show (if l' (k + 1) < l' k then hk_H (hk_dec l' k) else 0) = if l (k + 1) < l k then hk_H (hk_dec l k) else 0
  rw [eq' (k + 1) (by omega), eq' k (by omega), hk_H_cong (l := hk_dec l' k) (l' := hk_dec l k) (fun i hi => by
    unfold hk_dec
    rw [eq' k (by omega), eq' i (by omega)])]
/-- what the reference's place x counts: the fillings of its digits if they form a staircase -/
noncomputable def hk_V (s : Nat → Nat) (x : Nat) : Nat := @ite Nat (∀ i, i < 10 → hk_d s (i + 1) x ≤ hk_d s i x) (Classical.propDecidable _) (hk_H (fun i => hk_d s i x)) 0
def hk_more (s : Nat → Nat) (x k : Nat) : Bool := decide (hk_d s k x < s k) && (decide (k = 0) || decide (hk_d s k x < hk_d s (k - 1) x))
section
variable {s : Nat → Nat} {k x y : Nat}
theorem hk_more_iff : hk_more s x k = true ↔ hk_d s k x < s k ∧ (k = 0 ∨ hk_d s k x < hk_d s (k - 1) x) := by
  unfold hk_more
  rw [Bool.and_eq_true, Bool.or_eq_true, decide_eq_true_iff, decide_eq_true_iff, decide_eq_true_iff]
theorem hk_K1 (hw : hk_w s k ≤ y) (hm : hk_more s (y - hk_w s k) k = true) : (∀ i, i ≠ k → hk_d s i (y - hk_w s k) = hk_d s i y) ∧ hk_d s k (y - hk_w s k) + 1 = hk_d s k y ∧ (k = 0 ∨ hk_d s k y ≤ hk_d s (k - 1) y) := by
  have h := hk_more_iff.mp hm
  have e : y - hk_w s k + hk_w s k = y := Nat.sub_add_cancel hw
  have h1 : ∀ i, i ≠ k → hk_d s i (y - hk_w s k) = hk_d s i y := fun i hi => by
    have := hk_up_ne h.1 hi
    rw [e] at this
    exact this.symm
  have h2 := hk_up_k h.1
  rw [e] at h2
  refine ⟨h1, h2.symm, ?_⟩
  by_cases c : k = 0
  · exact Or.inl c
  · right
    have h3 := h.2.resolve_left c
    rw [h1 (k - 1) (by omega)] at h3
    omega
theorem hk_K2 (h : 0 < hk_d s k y) (h' : k = 0 ∨ hk_d s k y ≤ hk_d s (k - 1) y) : hk_w s k ≤ y ∧ hk_more s (y - hk_w s k) k = true := by
  obtain ⟨a1, a2, a3⟩ := hk_dn h
  refine ⟨a1, hk_more_iff.mpr ⟨a3, ?_⟩⟩
  by_cases c : k = 0
  · exact Or.inl c
  · right
    have h3 := h'.resolve_left c
    have h4 := hk_up_ne a3 (by omega : k - 1 ≠ k)
    rw [Nat.sub_add_cancel a1] at h4
    omega
theorem hk_Vrec (h10 : s 10 = 0) (hs : gt_sum s 10 ≤ 10) (hy : y < hk_w s 11) : hk_V s y = (if y = 0 then 1 else 0) + gt_sum (fun q => if hk_w s q ≤ y ∧ hk_more s (y - hk_w s q) q = true then hk_V s (y - hk_w s q) else 0) 11 := by
  have d10 : hk_d s 10 y = 0 := by
    have := hk_dle (s := s) (k := 10) (x := y)
    omega
  by_cases hp : ∀ i, i < 10 → hk_d s (i + 1) y ≤ hk_d s i y
  · have hV : hk_V s y = hk_H (fun i => hk_d s i y) := if_pos hp
    have hsum : gt_sum (fun i => hk_d s i y) 10 ≤ 10 := Nat.le_trans (gt_sum_le 10 (fun i _ => hk_dle)) hs
    rw [hV, hk_rec (l := fun i => hk_d s i y) hp d10 hsum]
    have hl : (if hk_w s 10 ≤ y ∧ hk_more s (y - hk_w s 10) 10 = true then hk_V s (y - hk_w s 10) else 0) = 0 := by
      refine if_neg (fun z => ?_)
      have := (hk_more_iff.mp z.2).1
      omega
    have h11 : gt_sum (fun q => if hk_w s q ≤ y ∧ hk_more s (y - hk_w s q) q = true then hk_V s (y - hk_w s q) else 0) 11 = gt_sum (fun q => if hk_w s q ≤ y ∧ hk_more s (y - hk_w s q) q = true then hk_V s (y - hk_w s q) else 0) 10 := by
      show gt_sum (fun q => if hk_w s q ≤ y ∧ hk_more s (y - hk_w s q) q = true then hk_V s (y - hk_w s q) else 0) 10 + (if hk_w s 10 ≤ y ∧ hk_more s (y - hk_w s 10) 10 = true then hk_V s (y - hk_w s 10) else 0) = _
      rw [hl, Nat.add_zero]
    rw [h11]
    congr 1
    · have : gt_sum (fun i => hk_d s i y) 10 = 0 ↔ y = 0 := by
        constructor
        · intro h0
          have h1 : ∀ k, k < 11 → hk_d s k y = 0 := fun k hk => by
            by_cases c : k = 10
            · subst c; exact d10
            · have := gt_sum_mem (f := fun i => hk_d s i y) (i := k) (n := 10) (by omega)
              have h2 : hk_d s k y ≤ gt_sum (fun i => hk_d s i y) 10 := this
              omega
          have h3 := hk_zero 11 h1
          rw [Nat.mod_eq_of_lt hy] at h3
          exact h3
        · intro h0
          subst h0
          rw [gt_sum_cong (g := fun _ => 0) 10 (fun i _ => hk_d0), gt_sum_zero]
      by_cases c : y = 0
      · rw [if_pos c, if_pos (this.mpr c)]
      · rw [if_neg c, if_neg (fun z => c (this.mp z))]
    · refine gt_sum_cong 10 (fun k hk => ?_)
      show (if hk_d s (k + 1) y < hk_d s k y then hk_H (hk_dec (fun i => hk_d s i y) k) else 0) = if hk_w s k ≤ y ∧ hk_more s (y - hk_w s k) k = true then hk_V s (y - hk_w s k) else 0
      have hpre : k = 0 ∨ hk_d s k y ≤ hk_d s (k - 1) y := by
        by_cases c : k = 0
        · exact Or.inl c
        · right
          have := hp (k - 1) (by omega)
          rw [Nat.sub_add_cancel (by omega)] at this
          exact this
      by_cases c : hk_d s (k + 1) y < hk_d s k y
      · have c2 := hk_K2 (by omega) hpre
        obtain ⟨a1, a2, a3⟩ := hk_K1 c2.1 c2.2
        rw [if_pos c, if_pos c2]
        have e : (fun i => hk_d s i (y - hk_w s k)) = hk_dec (fun i => hk_d s i y) k := by
          funext i
          unfold hk_dec
          by_cases ci : i = k
          · subst ci
            rw [if_pos rfl]
            show hk_d s i (y - hk_w s i) = hk_d s i y - 1
            omega
          · rw [if_neg ci]
            exact a1 i ci
        unfold hk_V
        rw [if_pos, e]
        intro i hi
        have b1 := hp i hi
        by_cases c1 : i = k
        · subst c1
          rw [a1 (i + 1) (by omega)]
          omega
        · rw [a1 i c1]
          by_cases c3 : i + 1 = k
          · rw [c3]
            rw [c3] at b1
            omega
          · rw [a1 (i + 1) c3]
            exact b1
      · rw [if_neg c]
        by_cases c2 : hk_w s k ≤ y ∧ hk_more s (y - hk_w s k) k = true
        · rw [if_pos c2]
          obtain ⟨a1, a2, a3⟩ := hk_K1 c2.1 c2.2
          unfold hk_V
          rw [if_neg]
          intro z
          have := z k hk
          rw [a1 (k + 1) (by omega)] at this
          omega
        · rw [if_neg c2]
  · have hV : hk_V s y = 0 := if_neg hp
    have hj : ∃ j, j < 10 ∧ hk_d s j y < hk_d s (j + 1) y := by
      apply Classical.byContradiction
      intro hn
      refine hp (fun i hi => ?_)
      apply Classical.byContradiction
      intro h
      exact hn ⟨i, hi, by omega⟩
    obtain ⟨j, hj, hjd⟩ := hj
    have hy0 : y ≠ 0 := by
      intro e
      subst e
      rw [hk_d0, hk_d0] at hjd
      omega
    rw [hV, if_neg hy0, gt_sum_cong (g := fun _ => 0) 11 (fun k hk => ?_), gt_sum_zero]
    show (if hk_w s k ≤ y ∧ hk_more s (y - hk_w s k) k = true then hk_V s (y - hk_w s k) else 0) = 0
    by_cases c2 : hk_w s k ≤ y ∧ hk_more s (y - hk_w s k) k = true
    · rw [if_pos c2]
      obtain ⟨a1, a2, a3⟩ := hk_K1 c2.1 c2.2
      unfold hk_V
      rw [if_neg]
      intro z
      have b := z j hj
      by_cases e1 : j + 1 = k
      · have a4 := a3.resolve_left (by omega)
        rw [← e1, Nat.add_sub_cancel] at a4
        omega
      · rw [a1 (j + 1) e1] at b
        by_cases e2 : j = k
        · subst e2
          omega
        · rw [a1 j e2] at b
          omega
    · rw [if_neg c2]
theorem hk_V_le (hs : gt_sum s 10 ≤ 10) : hk_V s x ≤ 3628800 := by
  unfold hk_V
  split
  · exact hk_H_le (Nat.le_trans (gt_sum_le 10 (fun i _ => hk_dle)) hs)
  · exact Nat.zero_le _
theorem hk_V_top (hm : ∀ i, i < 10 → s (i + 1) ≤ s i) : hk_V s (hk_w s 11 - 1) = hk_H s := by
  unfold hk_V
  rw [if_pos, hk_H_cong (l' := s) (fun i hi => hk_top (by omega))]
  intro i hi
  rw [hk_top (by omega), hk_top (by omega)]
  exact hm i hi
end
/-- what stands at y when the places below x are done, and at x the numbers below k -/
noncomputable def hk_A (s : Nat → Nat) (x k y : Nat) : Nat := (if y = 0 then 1 else 0) + gt_sum (fun q => if hk_w s q ≤ y ∧ hk_more s (y - hk_w s q) q = true ∧ (y - hk_w s q) * 11 + q < x * 11 + k then hk_V s (y - hk_w s q) else 0) 11
theorem gt_sum_more {f g : Nat → Nat} {k v : Nat} : ∀ n, k < n → (g k = f k + v) → (∀ i, i < n → i ≠ k → g i = f i) → gt_sum g n = gt_sum f n + v := by
  intro n
  induction n with
  | zero => intro h; omega
  | succ n ih =>
    intro h1 h2 h3
    rw [gt_sum, gt_sum]
    by_cases e : k = n
    · subst e
      rw [gt_sum_cong (g := f) k (fun i hi => h3 i (by omega) (by omega)), h2]
      omega
    · rw [ih (by omega) h2 (fun i hi => h3 i (by omega)), h3 n (by omega) (by omega)]
      omega
section
variable {s : Nat → Nat} {k x y : Nat}
theorem hk_A0 : hk_A s 0 0 y = if y = 0 then 1 else 0 := by
  unfold hk_A
  rw [gt_sum_cong (g := fun _ => 0) 11 (fun q _ => if_neg (fun z => by omega)), gt_sum_zero, Nat.add_zero]
theorem hk_Anext : hk_A s x 11 y = hk_A s (x + 1) 0 y := by
  have e : x * 11 + 11 = (x + 1) * 11 + 0 := by omega
  unfold hk_A
  rw [e]
theorem hk_Ano (hk : k < 11) (h : hk_more s x k = false ∨ y ≠ x + hk_w s k) : hk_A s x (k + 1) y = hk_A s x k y := by
  unfold hk_A
  congr 1
  refine gt_sum_cong 11 (fun q hq => hk_ite ?_)
  constructor
  · rintro ⟨h1, h2, h3⟩
    refine ⟨h1, h2, ?_⟩
    apply Classical.byContradiction
    intro hn
    have e1 : q = k := by omega
    subst e1
    have e2 : y - hk_w s q = x := by omega
    rw [e2] at h2
    rcases h with h | h
    · rw [h] at h2
      exact absurd h2 (by decide)
    · omega
  · rintro ⟨h1, h2, h3⟩
    exact ⟨h1, h2, by omega⟩
theorem hk_Ayes (hk : k < 11) (h : hk_more s x k = true) : hk_A s x (k + 1) (x + hk_w s k) = hk_A s x k (x + hk_w s k) + hk_V s x := by
  unfold hk_A
  rw [gt_sum_more (f := fun q => if hk_w s q ≤ x + hk_w s k ∧ hk_more s (x + hk_w s k - hk_w s q) q = true ∧ (x + hk_w s k - hk_w s q) * 11 + q < x * 11 + k then hk_V s (x + hk_w s k - hk_w s q) else 0) (k := k) (v := hk_V s x) 11 hk ?_ ?_, Nat.add_assoc]
  · show (if hk_w s k ≤ x + hk_w s k ∧ hk_more s (x + hk_w s k - hk_w s k) k = true ∧ (x + hk_w s k - hk_w s k) * 11 + k < x * 11 + (k + 1) then hk_V s (x + hk_w s k - hk_w s k) else 0) = (if hk_w s k ≤ x + hk_w s k ∧ hk_more s (x + hk_w s k - hk_w s k) k = true ∧ (x + hk_w s k - hk_w s k) * 11 + k < x * 11 + k then hk_V s (x + hk_w s k - hk_w s k) else 0) + hk_V s x
    rw [Nat.add_sub_cancel, if_pos ⟨by omega, h, by omega⟩, if_neg (fun z => by omega), Nat.zero_add]
  · intro q hq hqk
    refine hk_ite ?_
    constructor
    · rintro ⟨h1, h2, h3⟩
      exact ⟨h1, h2, by omega⟩
    · rintro ⟨h1, h2, h3⟩
      exact ⟨h1, h2, by omega⟩
theorem hk_Afull (h10 : s 10 = 0) (hs : gt_sum s 10 ≤ 10) (hy : y < hk_w s 11) (hx : y ≤ x) : hk_A s x k y = hk_V s y := by
  rw [hk_Vrec h10 hs hy]
  unfold hk_A
  congr 1
  refine gt_sum_cong 11 (fun q hq => hk_ite ?_)
  constructor
  · rintro ⟨h1, h2, h3⟩
    exact ⟨h1, h2⟩
  · rintro ⟨h1, h2⟩
    have := hk_wpos s q
    exact ⟨h1, h2, by omega⟩
end
end
section
section
variable {T : Nat → Nat → Nat} {l : Nat → Nat} {r c : Nat} {fc : Int32} {row tab len best ways : Nat → Int32}
theorem xh_7 {post : Int32 → Prop} (hA : xw_Arr tab len T l) (hl : ∀ q, q < 10 → l q ≤ 10) (hr : r < 10) (hc : c < l r) (hp : post (nI (hk_hook l r c))) :
    ∀ d i, i + d = 9 - r → wX_hookAt_7 post (nI r) (nI c) fc row tab len best ways (d + 1) (nI (gt_cnt (fun i => decide (c < l (r + 1 + i))) i)) (nI (r + 1 + i)) := by
  have cr : (nI r).toNatClampNeg = r := nI_clamp (by omega)
  have hlr := hl r hr
  intro d
  induction d with
  | zero =>
    intro i hi
    have e : i = 9 - r := by omega
    subst e
    unfold wX_hookAt_7
    simp only [cr, hA.1 r hr]
    refine br_t (nI_le (a := 10) (b := r + 1 + (9 - r)) (by omega) (by omega)) ⟨vp_in_nI hr (by omega), ?_⟩
    rw [pk_sub (by omega), nI_add]
    exact hp
  | succ d ih =>
    intro i hi
    have ci : (nI (r + 1 + i)).toNatClampNeg = r + 1 + i := nI_clamp (by omega)
    have hli := hl (r + 1 + i) (by omega)
    have h1 := ih (i + 1) (by omega)
    rw [gt_cnt, ← Nat.add_assoc] at h1
    unfold wX_hookAt_7
    simp only [ci, hA.1 (r + 1 + i) (by omega)]
    refine br_f (nI_ge (a := r + 1 + i) (b := 10) (by omega) (by omega)) ⟨vp_in_nI (by omega) (by omega), pk_le (l (r + 1 + i)) c (fun h x ex y ey => ?_) (fun h x ex y ey => ?_)⟩
    · subst ex ey
      rw [if_neg (fun z => by have := of_decide_eq_true z; omega), Nat.add_zero] at h1
      rw [Int32.add_zero, nI_1]
      exact h1
    · subst ex ey
      rw [if_pos (decide_eq_true h)] at h1
      rw [nI_1, nI_1]
      exact h1
theorem xh_hook {post : Int32 → Prop} (hA : xw_Arr tab len T l) (hl : ∀ q, q < 10 → l q ≤ 10) (hr : r < 10) (hc : c < l r) (hp : post (nI (hk_hook l r c))) : wpX_hookAt post (fc, row, tab, len, best, ways) (nI r) (nI c) := by
  unfold wpX_hookAt
  dsimp only
  intro x ex
  subst ex
  rw [nI_1]
  exact ⟨9 - r + 1, xh_7 hA hl hr hc hp (9 - r) 0 (by omega)⟩
theorem xh_44 {post : Int32 → SX → Prop} {J : Int64 → Int32 → Prop} {x : Nat} (hx : x < 2 ^ 63) (hA : xw_Arr tab len T l) (hl : ∀ q, q < 10 → l q ≤ 10) (hr : r < 10) (hJ : J (lN (hk_in l r (l r) x)) (nI (r + 1))) :
    ∀ d c, c + d = l r → wX_words_44 post J (nI r) fc row tab len best ways (d + 1) (lN (hk_in l r c x)) (nI c) := by
  have cr : (nI r).toNatClampNeg = r := nI_clamp (by omega)
  have hlr := hl r hr
  intro d
  induction d with
  | zero =>
    intro c hc
    have e : c = l r := by omega
    subst e
    unfold wX_words_44
    simp only [cr, hA.1 r hr]
    refine ⟨vp_in_nI hr (by omega), br_t (nI_le (Nat.le_refl _) (by omega)) (fun y ey => ?_)⟩
    subst ey
    rw [nI_1]
    exact hJ
  | succ d ih =>
    intro c hc
    have hc' : c < l r := by omega
    have h0 : 0 < hk_hook l r c := by unfold hk_hook; omega
    have h1 : hk_hook l r c < 2 ^ 31 := by
      have := gt_cnt_le (fun i => decide (c < l (r + 1 + i))) (9 - r)
      unfold hk_hook
      omega
    unfold wX_words_44
    simp only [cr, hA.1 r hr]
    refine ⟨vp_in_nI hr (by omega), br_f (nI_ge hc' (by omega)) (xh_hook hA hl hr hc' (br_f (nI_nle h0 h1) ?_))⟩
    rw [nI_l h1]
    refine ⟨fun z => ?_, fun x1 e1 x4 e4 => ?_⟩
    · have := (lN_eq (b := 0) h1 (by omega)).mp z
      omega
    · have h2 := hk_in_le l r x c
      rw [pk_lDiv (by omega) h0 (by omega)] at e1
      subst e1 e4
      rw [nI_1]
      exact ih (c + 1) (by omega)
theorem xh_35 {post : Int32 → SX → Prop} {x : Nat} (hx : x < 2 ^ 63) (hA : xw_Arr tab len T l) (hl : ∀ q, q < 10 → l q ≤ 10) (hp : post (nI (hk_out l 10 x)) (fc, row, tab, len, best, ways)) :
    ∀ d r, r + d = 10 → wX_words_35 post fc row tab len best ways (d + 1) (lN (hk_out l r x)) (nI r) := by
  intro d
  induction d with
  | zero =>
    intro r hr
    have e : r = 10 := by omega
    subst e
    unfold wX_words_35
    rw [lN_i]
    exact br_t (nI_le (a := 10) (b := 10) (by omega) (by omega)) hp
  | succ d ih =>
    intro r hr
    unfold wX_words_35
    have h2 := hk_out_le l x r
    exact br_f (nI_ge (a := r) (b := 10) (by omega) (by omega)) ⟨l r + 1, xh_44 (by omega) hA hl (by omega) (ih (r + 1) (by omega)) (l r) 0 (by omega)⟩
theorem xh_14 {post : Int32 → SX → Prop} (hc : c ≤ 10) (hA : xw_Arr tab len T l) (hl : ∀ q, q < 10 → l q ≤ 10) (hp : post (nI (hk_out l 10 (hk_fact c))) (nI c, row, tab, len, best, ways)) :
    ∀ d j, j + d = c → wX_words_14 post (nI c) row tab len best ways (d + 1) (lN (hk_fact j)) (nI (j + 1)) := by
  have hfc := hk_fact_le c hc
  intro d
  induction d with
  | zero =>
    intro j hj
    have e : j = c := by omega
    subst e
    unfold wX_words_14
    exact br_t (nI_lt (by omega) (by omega)) ⟨11, xh_35 (x := hk_fact j) (by omega) hA hl hp 10 0 rfl⟩
  | succ d ih =>
    intro j hj
    unfold wX_words_14
    refine br_f (nI_nlt (by omega) (by omega)) (fun x ex y ey => ?_)
    rw [nI_l (by omega), lN_mul] at ex
    subst ex ey
    rw [nI_1]
    exact ih (j + 1) (by omega)
theorem xh_words {post : Int32 → SX → Prop} (hc : c ≤ 10) (hs : gt_sum l 10 = c) (hA : xw_Arr tab len T l) (hl : ∀ q, q < 10 → l q ≤ 10) (hp : post (nI (hk_H l)) (nI c, row, tab, len, best, ways)) : ∃ n, wX_words_14 post (nI c) row tab len best ways n 1 2 := by
  unfold hk_H at hp
  rw [hs] at hp
  cases c with
  | zero =>
    refine ⟨1, ?_⟩
    unfold wX_words_14
    exact br_t (by decide) ⟨11, xh_35 (x := 1) (by omega) hA hl hp 10 0 rfl⟩
  | succ c => exact ⟨c + 1, xh_14 hc hA hl hp c 1 (by omega)⟩
end
end
section
/-- the shape that the reference reckons: the ten row lengths, then 0 -/
def yd_s (l : Nat → Nat) (q : Nat) : Nat := if q < 10 then l q else 0
theorem yd_s_lt {l : Nat → Nat} {q : Nat} (h : q < 10) : yd_s l q = l q := if_pos h
theorem yd_s_10 {l : Nat → Nat} : yd_s l 10 = 0 := rfl
theorem yd_s_sum (l : Nat → Nat) : gt_sum (yd_s l) 10 = gt_sum l 10 := gt_sum_cong 10 (fun _ hi => yd_s_lt hi)
theorem yd_s_mono {T : Nat → Nat → Nat} {l : Nat → Nat} (h : gt_Tab T l) : ∀ i, i < 10 → yd_s l (i + 1) ≤ yd_s l i := by
  intro i hi
  by_cases c : i + 1 < 10
  · rw [yd_s_lt c, yd_s_lt hi]
    exact h.2.1 i c
  · have e : yd_s l (i + 1) = 0 := if_neg c
    rw [e]
    exact Nat.zero_le _
theorem yd_s_dif (l : Nat → Nat) {k : Nat} (hk : k < 11) : gt_sum l (min (k + 1) 10) = gt_sum l (min k 10) + yd_s l k := by
  by_cases c : k < 10
  · rw [yd_s_lt c, (by omega : min (k + 1) 10 = k + 1), (by omega : min k 10 = k), gt_sum]
  · have e : yd_s l k = 0 := if_neg c
    rw [e, (by omega : min (k + 1) 10 = 10), (by omega : min k 10 = 10), Nat.add_zero]
section
variable {s : Nat → Nat} {fn : Int32} {row best shape weight ways : Nat → Int32} {k x E v : Nat}
theorem yd_part {post : Int32 → Prop} (hk : k < 11) (hx : x < 2 ^ 31) (hsh : shape k = nI (s k)) (hwg : weight k = nI (hk_w s k)) (hs : s k ≤ 10) (hw : hk_w s k ≤ 1024) (hp : post (nI (hk_d s k x))) : wpY_part post (fn, row, best, shape, weight, ways) (nI x) (nI k) := by
  have ck : (nI k).toNatClampNeg = k := nI_clamp (by omega)
  have h0 := hk_wpos s k
  unfold wpY_part
  simp only [ck, hwg]
  refine ⟨vp_in_nI (by omega) (by omega), br_t (nI_le (a := 1) (b := hk_w s k) (by omega) (by omega)) ⟨vp_in_nI (by omega) (by omega), ?_⟩⟩
  unfold wY_part_20
  simp only [ck, hsh, nI_1]
  have h1 := Nat.div_le_self x (hk_w s k)
  refine ⟨nI_ne0 h0 (by omega), vp_in_nI (by omega) (by omega), nI_ne0 (by omega) (by omega), ?_⟩
  rw [pk_div hx h0 (by omega), pk_rem (by omega) (by omega) (by omega)]
  exact hp
theorem yd_184 {post : Int32 → SY → Prop} {J117 J132 : Int32 → (Nat → Int32) → (Nat → Int32) → (Nat → Int32) → (Nat → Int32) → (Nat → Int32) → Prop} {x2 x3 : Int32} (h : J132 (nI (k + 1)) row best shape weight ways) : wY_words_184 post J117 J132 x2 x3 (nI k) fn row best shape weight ways := by
  unfold wY_words_184 wY_words_185
  refine br_t rfl (fun y ey => ?_)
  subst ey
  rw [nI_1]
  exact h
theorem yd_180 {post : Int32 → SY → Prop} {J117 J132 : Int32 → (Nat → Int32) → (Nat → Int32) → (Nat → Int32) → (Nat → Int32) → (Nat → Int32) → Prop} {x2 : Int32} {w a : Nat} (hk : k < 11) (hx : x < 1100) (hxw : x + w < 1100) (hv : v < 2 ^ 31) (hwg : weight k = nI w) (e1 : ways x = nI v) (e2 : ways (x + w) = nI a) (h1 : v = 0 → J132 (nI (k + 1)) row best shape weight ways) (h2 : J132 (nI (k + 1)) row best shape weight (upd ways (x + w) (nI (a + v)))) : wY_words_180 post J117 J132 x2 (nI x) (nI k) fn row best shape weight ways := by
  have ck : (nI k).toNatClampNeg = k := nI_clamp (by omega)
  have cx : (nI x).toNatClampNeg = x := nI_clamp (by omega)
  have cw : (nI (x + w)).toNatClampNeg = x + w := nI_clamp (by omega)
  unfold wY_words_180 wY_words_185
  simp only [ck, cx, hwg, nI_add, cw, e1, e2, nI_1]
  have vx : vp_in (nI x) 1100 := vp_in_nI hx (by omega)
  have vw : vp_in (nI (x + w)) 1100 := vp_in_nI hxw (by omega)
  refine br_f (by decide) ⟨vx, pk_le v 0 (fun h y ey => ?_) (fun h => ⟨vp_in_nI (by omega) (by omega), vw, vx, vw, fun b eb y ey => ?_⟩)⟩
  · subst ey
    exact h1 (by omega)
  · subst eb ey
    exact h2
end
section
variable {s : Nat → Nat} {fn : Int32} {row best shape weight : Nat → Int32} {x E : Nat}
/-- shape and weight as the loops ahead leave them -/
def yd_Ok (s : Nat → Nat) (shape weight : Nat → Int32) : Prop := (∀ q, q < 11 → shape q = nI (s q)) ∧ ∀ q, q ≤ 11 → weight q = nI (hk_w s q)
theorem yd_wle (h10 : s 10 = 0) (hs : gt_sum s 10 ≤ 10) {q : Nat} (hq : q ≤ 11) : hk_w s q ≤ 1024 := by
  have h1 := hk_wle (s := s) q
  have h2 : gt_sum s q ≤ gt_sum s 11 := gt_sum_mono hq
  have h3 : gt_sum s 11 = gt_sum s 10 + s 10 := rfl
  have h4 : 2 ^ gt_sum s q ≤ 2 ^ 10 := Nat.pow_le_pow_right (by omega) (by omega)
  omega
theorem yd_sle (h10 : s 10 = 0) (hs : gt_sum s 10 ≤ 10) {q : Nat} (hq : q < 11) : s q ≤ 10 := by
  by_cases c : q = 10
  · subst c; omega
  · have := gt_sum_mem (f := s) (i := q) (n := 10) (by omega)
    omega
theorem yd_132 {post : Int32 → SY → Prop} {J117 : Int32 → (Nat → Int32) → (Nat → Int32) → (Nat → Int32) → (Nat → Int32) → (Nat → Int32) → Prop} {x2 : Int32} (h10 : s 10 = 0) (hs : gt_sum s 10 ≤ 10) (hO : yd_Ok s shape weight) (hx : x < hk_w s 11) (hJ : ∀ ways', (∀ y, y < hk_w s 11 → ways' y = nI (hk_A s (x + 1) 0 y)) → J117 (nI (x + 1)) row best shape weight ways') :
    ∀ d k ways, k + d = 11 → (∀ y, y < hk_w s 11 → ways y = nI (hk_A s x k y)) → wY_words_132 post J117 x2 (nI x) fn (d + 1) (nI k) row best shape weight ways := by
  have hE := yd_wle h10 hs (Nat.le_refl 11)
  intro d
  induction d with
  | zero =>
    intro k ways hk hI
    have e : k = 11 := by omega
    subst e
    unfold wY_words_132
    refine br_t (nI_le (a := 11) (b := 11) (by omega) (by omega)) (fun y ey => ?_)
    subst ey
    rw [nI_1]
    exact hJ ways (fun y hy => by rw [← hk_Anext]; exact hI y hy)
  | succ d ih =>
    intro k ways hk hI
    have hk11 : k < 11 := by omega
    have ck : (nI k).toNatClampNeg = k := nI_clamp (by omega)
    have hsk := yd_sle h10 hs hk11
    have hwk := yd_wle h10 hs (q := k) (by omega)
    have hd : hk_d s k x ≤ s k := hk_dle
    have no : hk_more s x k = false → wY_words_184 post J117 (wY_words_132 post J117 x2 (nI x) fn (d + 1)) x2 (nI x) (nI k) fn row best shape weight ways := fun hm =>
      yd_184 (ih (k + 1) ways (by omega) (fun y hy => by rw [hk_Ano hk11 (Or.inl hm)]; exact hI y hy))
    have ye : hk_more s x k = true → wY_words_180 post J117 (wY_words_132 post J117 x2 (nI x) fn (d + 1)) x2 (nI x) (nI k) fn row best shape weight ways := fun hm => by
      have hxw := hk_up_bd (hk_more_iff.mp hm).1 hk11 hx
      have hVl := hk_V_le (s := s) (x := x) hs
      have e1 : ways x = nI (hk_V s x) := by rw [hI x hx, hk_Afull h10 hs hx (Nat.le_refl _)]
      refine yd_180 (v := hk_V s x) (w := hk_w s k) (a := hk_A s x k (x + hk_w s k)) hk11 (by omega) (by omega) (by omega) (hO.2 k (by omega)) e1 (hI _ hxw) (fun h => ?_) ?_
      · refine ih (k + 1) ways (by omega) (fun y hy => ?_)
        by_cases c : y = x + hk_w s k
        · subst c
          rw [hk_Ayes hk11 hm, h, Nat.add_zero]
          exact hI _ hy
        · rw [hk_Ano hk11 (Or.inr c)]
          exact hI y hy
      · refine ih (k + 1) (upd ways (x + hk_w s k) (nI (hk_A s x k (x + hk_w s k) + hk_V s x))) (by omega) (fun y hy => ?_)
        by_cases c : y = x + hk_w s k
        · subst c
          rw [pk_us, hk_Ayes hk11 hm]
        · rw [pk_un c, hk_Ano hk11 (Or.inr c)]
          exact hI y hy
    have hf : ∀ P : Prop, ¬ P → (hk_more s x k = true → P) → hk_more s x k = false := fun P hP h => by
      apply Bool.eq_false_iff.mpr
      intro z
      exact hP (h z)
    unfold wY_words_132
    simp only [ck, hO.1 k hk11]
    refine br_f (nI_ge (a := k) (b := 11) (by omega) (by omega)) (yd_part hk11 (by omega) (hO.1 k hk11) (hO.2 k (by omega)) hsk hwk ⟨vp_in_nI hk11 (by omega), ?_⟩)
    refine pk_le (s k) (hk_d s k x) (fun h => no (hf (hk_d s k x < s k) (by omega) (fun z => (hk_more_iff.mp z).1))) (fun h => ?_)
    refine pk_eq k 0 (fun e => ye (hk_more_iff.mpr ⟨h, Or.inl e⟩)) (fun e => ?_)
    have e1 : nI k - 1 = nI (k - 1) := pk_sub (b := 1) (by omega)
    rw [e1]
    have hs1 := yd_sle h10 hs (q := k - 1) (by omega)
    have hw1 := yd_wle h10 hs (q := k - 1) (by omega)
    have hd1 : hk_d s (k - 1) x ≤ s (k - 1) := hk_dle
    refine yd_part hk11 (by omega) (hO.1 k hk11) (hO.2 k (by omega)) hsk hwk ?_
    refine yd_part (by omega) (by omega) (hO.1 (k - 1) (by omega)) (hO.2 (k - 1) (by omega)) hs1 hw1 ?_
    refine pk_le (hk_d s (k - 1) x) (hk_d s k x) (fun h' => no (hf (hk_d s k x < hk_d s (k - 1) x) (by omega) (fun z => ((hk_more_iff.mp z).2).resolve_left e))) (fun h' => ye (hk_more_iff.mpr ⟨h, Or.inr h'⟩))
theorem yd_117 {post : Int32 → SY → Prop} (h10 : s 10 = 0) (hs : gt_sum s 10 ≤ 10) (hO : yd_Ok s shape weight) (hp : ∀ ways', post (nI (hk_V s (hk_w s 11 - 1))) (fn, row, best, shape, weight, ways')) :
    ∀ d x ways, x + d = hk_w s 11 → (∀ y, y < hk_w s 11 → ways y = nI (hk_A s x 0 y)) → wY_words_117 post (nI (hk_w s 11)) fn (d + 1) (nI x) row best shape weight ways := by
  have hE := yd_wle h10 hs (Nat.le_refl 11)
  have h0 := hk_wpos s 11
  intro d
  induction d with
  | zero =>
    intro x ways hx hI
    have e : x = hk_w s 11 := by omega
    have e1 : nI (hk_w s 11) - 1 = nI (hk_w s 11 - 1) := pk_sub (b := 1) (by omega)
    have c1 : (nI (hk_w s 11 - 1)).toNatClampNeg = hk_w s 11 - 1 := nI_clamp (by omega)
    have h1 := hI (hk_w s 11 - 1) (by omega)
    rw [hk_Afull h10 hs (by omega) (by omega)] at h1
    unfold wY_words_117
    simp only [e1, c1, h1]
    exact br_t (nI_le (by omega) (by omega)) ⟨vp_in_nI (by omega) (by omega), hp ways⟩
  | succ d ih =>
    intro x ways hx hI
    unfold wY_words_117
    exact br_f (nI_ge (by omega) (by omega)) (br_f (nI_ge (a := x) (b := 1100) (by omega) (by omega)) ⟨12, yd_132 h10 hs hO (by omega) (fun ways' h => ih (x + 1) ways' (by omega) h) 11 0 ways rfl hI⟩)
theorem yd_82 {post : Int32 → SY → Prop} (hE : E ≤ 1024) (hend : ∀ ways', (∀ y, y < E → ways' y = nI (if y = 0 then 1 else 0)) → ∃ n, wY_words_117 post (nI E) fn n 0 row best shape weight ways') :
    ∀ d x ways, x + d = E → (∀ y, y < x → ways y = nI (if y = 0 then 1 else 0)) → wY_words_82 post (nI E) fn (d + 1) (nI x) row best shape weight ways := by
  intro d
  induction d with
  | zero =>
    intro x ways hx hI
    have e : x = E := by omega
    subst e
    unfold wY_words_82
    exact br_t (nI_le (Nat.le_refl _) (by omega)) (hend ways hI)
  | succ d ih =>
    intro x ways hx hI
    have cx : (nI x).toNatClampNeg = x := nI_clamp (by omega)
    unfold wY_words_82
    simp only [cx]
    refine br_f (nI_ge (by omega) (by omega)) (br_f (nI_ge (a := x) (b := 1100) (by omega) (by omega)) (pk_eq x 0 (fun e => ⟨vp_in_nI (by omega) (by omega), fun a ea z ez => ?_⟩) (fun e => ⟨vp_in_nI (by omega) (by omega), fun a ea z ez => ?_⟩)))
    · subst ea ez
      rw [nI_1]
      refine ih (x + 1) (upd ways x 1) (by omega) (fun y hy => ?_)
      by_cases c : y = x
      · subst c
        rw [pk_us, if_pos e]
        rfl
      · rw [pk_un c]
        exact hI y (by omega)
    · subst ea ez
      rw [nI_1]
      refine ih (x + 1) (upd ways x 0) (by omega) (fun y hy => ?_)
      by_cases c : y = x
      · subst c
        rw [pk_us, if_neg e]
        rfl
      · rw [pk_un c]
        exact hI y (by omega)
end
section
variable {c : Nat} {f : Nat → Nat} {T : Nat → Nat → Nat} {l : Nat → Nat} {ways : Nat → Int32}
theorem yd_14 {post : Int32 → SY → Prop} (hR : xw_Row f c) (hD : gt_Done ((List.range c).map f) T l) (hend : ∀ best' shape' weight', yd_Ok (yd_s l) shape' weight' → ∃ n, wY_words_82 post (nI (hk_w (yd_s l) 11)) (nI c) n 0 (fun j => nI (f j)) best' shape' weight' ways) :
    ∀ d k best shape weight, k + d = 11 → (∀ q, q < k → shape q = nI (yd_s l q)) → (∀ q, q ≤ k → weight q = nI (hk_w (yd_s l) q)) → wY_words_14 post (nI (2 ^ c - 1)) (d + 1) (nI k) (nI c) (fun j => nI (f j)) best shape weight ways := by
  have hc := hR.1
  intro d
  induction d with
  | zero =>
    intro k best shape weight hk hS hW
    have e : k = 11 := by omega
    subst e
    unfold wY_words_14
    refine br_t (nI_le (a := 11) (b := 11) (by omega) (by omega)) (fun y ey => ?_)
    rw [hW 11 (by omega)] at ey
    subst ey
    exact hend best shape weight ⟨hS, hW⟩
  | succ d ih =>
    intro k best shape weight hk hS hW
    have ck : (nI k).toNatClampNeg = k := nI_clamp (by omega)
    have ck1 : (nI (k + 1)).toNatClampNeg = k + 1 := nI_clamp (by omega)
    unfold wY_words_14
    rw [nI_1 k, ck, ck1]
    refine br_f (nI_ge (a := k) (b := 11) (by omega) (by omega)) ?_
    refine yw_greatest (fl := true) hc (yq_lt hc).1 (K := k + 1) (by omega) hR.2.1 (fun M1 best1 hM1 => ?_)
    refine yw_greatest (fl := true) hc (yq_lt hc).1 (K := k) (by omega) hR.2.1 (fun M0 best0 hM0 => ?_)
    have e1 := yq_rise (Nat.le_refl c) hD hM1
    have e0 := yq_rise (Nat.le_refl c) hD hM0
    have ed := yd_s_dif l (k := k) (by omega)
    have e : nI M1 - nI M0 = nI (yd_s l k) := by
      rw [pk_sub (by omega)]
      exact congrArg nI (by omega)
    refine ⟨vp_in_nI (by omega) (by omega), fun sh esh => ⟨vp_in_nI (by omega) (by omega), vp_in_nI (by omega) (by omega), vp_in_nI (by omega) (by omega), fun wg ewg y ey => ?_⟩⟩
    rw [e] at esh
    subst esh
    rw [pk_us, hW k (Nat.le_refl _), nI_1, pk_mul] at ewg
    subst ewg ey
    refine ih (k + 1) best0 _ _ (by omega) (fun q hq => ?_) (fun q hq => ?_)
    · by_cases cq : q = k
      · subst cq
        exact pk_us
      · rw [pk_un cq]
        exact hS q (by omega)
    · by_cases cq : q = k + 1
      · subst cq
        exact pk_us
      · rw [pk_un cq]
        exact hW q (by omega)
theorem yd_words {post : Int32 → SY → Prop} {best shape weight : Nat → Int32} (hR : xw_Row f c) (hD : gt_Done ((List.range c).map f) T l) (hp : ∀ best' shape' weight' ways', post (nI (hk_H l)) (nI c, (fun j => nI (f j)), best', shape', weight', ways')) : wpY_words post (nI c, (fun j => nI (f j)), best, shape, weight, ways) := by
  have hc := hR.1
  have hs : gt_sum (yd_s l) 10 ≤ 10 := by
    rw [yd_s_sum, gt_Done_sum hD]
    exact hD.2.1.2.1
  have hE := yd_wle yd_s_10 hs (Nat.le_refl 11)
  have eV : hk_V (yd_s l) (hk_w (yd_s l) 11 - 1) = hk_H l := by
    rw [hk_V_top (yd_s_mono hD.1), hk_H_cong (l := yd_s l) (l' := l) (fun i hi => yd_s_lt hi)]
  unfold wpY_words
  dsimp only
  refine yq_whole hc (fun wg ewg => ⟨12, ?_⟩)
  subst ewg
  refine yd_14 hR hD (fun best' shape' weight' hO => ⟨hk_w (yd_s l) 11 + 1, ?_⟩) 11 0 best shape _ rfl (fun q h => absurd h (Nat.not_lt_zero _)) (fun q hq => ?_)
  · refine yd_82 hE (fun ways' hI => ⟨hk_w (yd_s l) 11 + 1, ?_⟩) (hk_w (yd_s l) 11) 0 ways (by omega) (fun y h => absurd h (Nat.not_lt_zero _))
    refine yd_117 yd_s_10 hs hO (fun ways'' => ?_) (hk_w (yd_s l) 11) 0 ways' (by omega) (fun y hy => by rw [hk_A0]; exact hI y hy)
    rw [eV]
    exact hp _ _ _ _
  · have e : q = 0 := by omega
    subst e
    exact pk_us
end
theorem i_vc_words {k : Nat} {u : SX} {v : SY} (I : i_Rel k u v) (hk : k + 3 ≤ 1536) : wpX_words (fun r u' => wpY_words (fun r' v' => r' = r ∧ i_Rel (k + 3) u' v') v) u := by
  obtain ⟨c, f, tab, len, bst, wys, bst', shp, wgt, wys', hR, rfl, rfl⟩ := I
  have hc := hR.1
  unfold wpX_words
  refine xw_insertAll hR (fun tab' len' T l hA hD => ?_)
  refine xh_words hc (by rw [gt_Done_sum hD]; simp) hA (fun q hq => gt_Done_len hD hq) ?_
  exact yd_words hR hD (fun _ _ _ _ => ⟨rfl, rl_mk hR⟩)
end
