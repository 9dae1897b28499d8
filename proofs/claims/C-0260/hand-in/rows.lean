section
theorem pk_us {f : Nat → Int32} {k : Nat} {x : Int32} : upd f k x k = x := if_pos rfl
theorem pk_un {f : Nat → Int32} {k j : Nat} {x : Int32} (h : j ≠ k) : upd f k x j = f j := if_neg h
theorem pk_sub {a b : Nat} (h : b ≤ a) : nI a - nI b = nI (a - b) := by
  obtain ⟨c, rfl⟩ : ∃ c, a = c + b := ⟨a - b, by omega⟩
  rw [← nI_add, Int32.add_sub_cancel, Nat.add_sub_cancel]
theorem pk_m1 (n : Nat) : nI (n + 1) + (-1) = nI n := by
  rw [← nI_1, Int32.add_assoc, show (1 : Int32) + (-1) = 0 from rfl, Int32.add_zero]
theorem pk_ix (x : Int32) {n : Nat} (hn : n < 2 ^ 31) : x < 0 ∨ nI n ≤ x ∨ ∃ j : Nat, j < n ∧ x = nI j := by
  by_cases h : x < 0
  · exact Or.inl h
  · obtain ⟨j, hj, rfl⟩ := nI_of h
    by_cases h2 : j < n
    · exact Or.inr (Or.inr ⟨j, h2, rfl⟩)
    · exact Or.inr (Or.inl (nI_le (by omega) hj))
theorem pk_le {x y : Int32} {A B : Prop} (a b : Nat) (f : a ≤ b → A) (g : b < a → B) (hx : x = nI a := by rfl) (hy : y = nI b := by rfl) (ha : a < 2 ^ 31 := by omega) (hb : b < 2 ^ 31 := by omega) : (x ≤ y → A) ∧ (¬ x ≤ y → B) := by
  subst hx hy
  rw [nI_leI ha hb]
  exact ⟨f, fun z => g (by omega)⟩
theorem pk_lt {x y : Int32} {A B : Prop} (a b : Nat) (f : a < b → A) (g : b ≤ a → B) (hx : x = nI a := by rfl) (hy : y = nI b := by rfl) (ha : a < 2 ^ 31 := by omega) (hb : b < 2 ^ 31 := by omega) : (x < y → A) ∧ (¬ x < y → B) := by
  subst hx hy
  rw [nI_ltI ha hb]
  exact ⟨f, fun z => g (by omega)⟩
theorem pk_eq {x y : Int32} {A B : Prop} (a b : Nat) (f : a = b → A) (g : a ≠ b → B) (hx : x = nI a := by rfl) (hy : y = nI b := by rfl) (ha : a < 2 ^ 31 := by omega) (hb : b < 2 ^ 31 := by omega) : (x = y → A) ∧ (¬ x = y → B) := by
  subst hx hy
  rw [nI_eq ha hb]
  exact ⟨f, g⟩
theorem pk_in {x : Int32} (n N : Nat) (h : n < N) (hx : x = nI n := by rfl) (hN : N < 2 ^ 31 := by omega) : vp_in x N := by
  subst hx
  exact vp_in_nI h hN
theorem pk_cl {x : Int32} (n : Nat) (hx : x = nI n := by rfl) (h : n < 2 ^ 31 := by omega) : x.toNatClampNeg = n := by
  subst hx
  exact nI_clamp h
theorem pk_tn {n : Nat} (h : n < 2 ^ 32) : (nI n).toBitVec.toNat = n := Nat.mod_eq_of_lt h
theorem pk_and (x : Int32) {m : Int32} (k : Nat) (hm : m.toBitVec.toNat = 2 ^ k - 1) : x &&& m = nI (x.toBitVec.toNat % 2 ^ k) := by
  apply Int32.toBitVec_inj.mp
  apply BitVec.eq_of_toNat_eq
  rw [Int32.toBitVec_and, BitVec.toNat_and, hm, Nat.and_two_pow_sub_one_eq_mod]
  show _ = (BitVec.ofNat 32 _).toNat
  rw [BitVec.toNat_ofNat]
  exact (Nat.mod_eq_of_lt (Nat.lt_of_le_of_lt (Nat.mod_le _ _) x.toBitVec.isLt)).symm
theorem pk_vb (z : Int32) : vp_nar .byte z.toInt8.toInt32 = z.toInt8.toInt32 := by rw [vp_nar_byte]; simp
theorem pk_vs (z : Int32) : vp_nar .short z.toInt16.toInt32 = z.toInt16.toInt32 := by rw [vp_nar_short]; simp
theorem pk_least (P : Nat → Prop) (h : ∃ k, P k) : ∃ k, P k ∧ ∀ j, j < k → ¬ P j := by
  obtain ⟨k, hk⟩ := h
  induction k using Nat.strongRecOn with
  | ind k ih =>
    by_cases e : ∃ j, j < k ∧ P j
    · obtain ⟨j, hj, pj⟩ := e
      exact ih j hj pj
    · exact ⟨k, hk, fun j hj pj => e ⟨j, hj, pj⟩⟩
def bt (x : Int32) (i : Nat) : Bool := x.toBitVec.getLsbD i
theorem b_ext {x y : Int32} (h : ∀ i, i < 32 → bt x i = bt y i) : x = y := Int32.toBitVec_inj.mp (BitVec.eq_of_getLsbD_eq (fun i hi => h i hi))
theorem b_or (x y : Int32) (i : Nat) : bt (x ||| y) i = (bt x i || bt y i) := by unfold bt; rw [Int32.toBitVec_or, BitVec.getLsbD_or]
theorem b_and (x y : Int32) (i : Nat) : bt (x &&& y) i = (bt x i && bt y i) := by unfold bt; rw [Int32.toBitVec_and, BitVec.getLsbD_and]
theorem b_xor (x y : Int32) (i : Nat) : bt (x ^^^ y) i = (bt x i ^^ bt y i) := by unfold bt; rw [Int32.toBitVec_xor, BitVec.getLsbD_xor]
theorem b_big {x : Int32} {i : Nat} (h : 32 ≤ i) : bt x i = false := BitVec.getLsbD_of_ge _ _ h
theorem b_m1 : ∀ i, i < 32 → bt (-1) i = true := by decide +kernel
theorem b_0 (i : Nat) : bt 0 i = false := BitVec.getLsbD_zero
theorem s_l : ∀ n, n < 32 → ((nI n &&& 31).toBitVec.smod 32).toNat = n := by decide +kernel
theorem b_shl (n : Nat) (hn : n < 32) (x : Int32) {i : Nat} (hi : i < 32) : bt (x <<< (nI n &&& 31)) i = (decide (n ≤ i) && bt x (i - n)) := by
  unfold bt
  rw [Int32.toBitVec_shiftLeft]
  show (x.toBitVec <<< ((nI n &&& 31).toBitVec.smod 32).toNat).getLsbD i = _
  rw [s_l n hn, BitVec.getLsbD_shiftLeft]
  rcases Nat.lt_or_ge i n with h | h
  · simp [h, Nat.not_le.mpr h]
  · simp [hi, h, Nat.not_lt.mpr h]
theorem b_sshr (n : Nat) (hn : n < 32) (x : Int32) {i : Nat} (hi : i < 32) : bt (x >>> (nI n &&& 31)) i = if n + i < 32 then bt x (n + i) else bt x 31 := by
  unfold bt
  rw [Int32.toBitVec_shiftRight]
  show (x.toBitVec.sshiftRight ((nI n &&& 31).toBitVec.smod 32).toNat).getLsbD i = _
  rw [s_l n hn, BitVec.getLsbD_sshiftRight, BitVec.msb_eq_getLsbD_last]
  simp [hi]
theorem nx_and (a b : Nat) : nI a &&& nI b = nI (a &&& b) := by
  apply Int32.toBitVec_inj.1
  show BitVec.ofNat 32 a &&& BitVec.ofNat 32 b = BitVec.ofNat 32 (a &&& b)
  apply BitVec.eq_of_getLsbD_eq
  intro i hi
  simp [hi]
end
section
abbrev cd_B (s i : Nat) : Prop := s.testBit i = true
def cd_s (s t : Nat) : Prop := ∀ i, cd_B s i → cd_B t i
theorem cd_s_rf (s : Nat) : cd_s s s := fun _ h => h
theorem cd_s_tr {a b c : Nat} (h : cd_s a b) (g : cd_s b c) : cd_s a c := fun i q => g i (h i q)
theorem cd_s_as {a b : Nat} (h : cd_s a b) (g : cd_s b a) : a = b := Nat.eq_of_testBit_eq (fun i => Bool.eq_iff_iff.mpr ⟨h i, g i⟩)
theorem cd_s_le {a b : Nat} (h : cd_s a b) : a ≤ b := Nat.le_of_testBit h
theorem cd_s_0 (a : Nat) : cd_s 0 a := fun i h => by
  have h2 : (0 : Nat).testBit i = true := h
  rw [Nat.zero_testBit] at h2
  exact absurd h2 (by decide)
theorem cd_lt {a n : Nat} : a < 2 ^ n ↔ ∀ i, cd_B a i → i < n := by
  constructor
  · intro h i hb
    apply Classical.byContradiction
    intro hn
    have h1 : 2 ^ i ≤ a := Nat.ge_two_pow_of_testBit hb
    have h2 : 2 ^ n ≤ 2 ^ i := Nat.pow_le_pow_right (by decide) (by omega)
    exact absurd (Nat.lt_of_lt_of_le h (Nat.le_trans h2 h1)) (Nat.lt_irrefl _)
  · intro g
    refine Nat.lt_pow_two_of_testBit a (fun i hi => ?_)
    cases h : a.testBit i
    · rfl
    · exact absurd (g i h) (by omega)
theorem cd_or {s t i : Nat} : cd_B (s ||| t) i ↔ (cd_B s i ∨ cd_B t i) := by
  show (s ||| t).testBit i = true ↔ _
  rw [Nat.testBit_or, Bool.or_eq_true]
theorem cd_and {s t i : Nat} : cd_B (s &&& t) i ↔ (cd_B s i ∧ cd_B t i) := by
  show (s &&& t).testBit i = true ↔ _
  rw [Nat.testBit_and, Bool.and_eq_true]
theorem cd_2 {a i : Nat} : cd_B (2 ^ a) i ↔ i = a := by
  show (2 ^ a).testBit i = true ↔ _
  rw [Nat.testBit_two_pow, decide_eq_true_eq]
  exact ⟨Eq.symm, Eq.symm⟩
theorem cd_0 {i : Nat} : ¬ cd_B 0 i := by
  show ¬ (0 : Nat).testBit i = true
  rw [Nat.zero_testBit]
  decide
theorem cd_ev {n i : Nat} : cd_B (2 ^ n - 1) i ↔ i < n := by
  show (2 ^ n - 1).testBit i = true ↔ _
  rw [Nat.testBit_two_pow_sub_one, decide_eq_true_eq]
theorem cd_or2 {s a i : Nat} : cd_B (s ||| 2 ^ a) i ↔ (cd_B s i ∨ i = a) := by rw [cd_or, cd_2]
theorem cd_s_or1 {s a : Nat} : cd_s s (s ||| 2 ^ a) := fun _ h => cd_or2.mpr (Or.inl h)
theorem cd_s_or {s a t : Nat} : cd_s (s ||| 2 ^ a) t ↔ (cd_s s t ∧ cd_B t a) :=
  ⟨fun h => ⟨fun i q => h i (cd_or2.mpr (Or.inl q)), h a (cd_or2.mpr (Or.inr rfl))⟩, fun h i q => (cd_or2.mp q).elim (h.1 i) (fun e => e ▸ h.2)⟩
theorem cd_or_lt {s a n : Nat} (hs : s < 2 ^ n) (ha : a < n) : s ||| 2 ^ a < 2 ^ n :=
  cd_lt.mpr (fun i q => (cd_or2.mp q).elim (cd_lt.mp hs i) (fun e => by omega))
theorem cd_or_gt {s a : Nat} (h : ¬ cd_B s a) : s < s ||| 2 ^ a := by
  rcases Nat.lt_or_ge s (s ||| 2 ^ a) with q | q
  · exact q
  · have e : s ||| 2 ^ a = s := Nat.le_antisymm q (cd_s_le cd_s_or1)
    exact absurd (e ▸ cd_or2.mpr (Or.inr rfl) : cd_B s a) h
theorem cd_2n {n : Nat} (h : n ≤ 11) : 2 ^ n ≤ 2048 := by
  have : 2 ^ n ≤ 2 ^ 11 := Nat.pow_le_pow_right (by decide) h
  exact this
def cd_K (kd lf rt : Nat → Nat) (s i : Nat) : Prop :=
  (kd i = 0 → (cd_B s i ↔ (cd_B s (lf i) ∧ cd_B s (rt i)))) ∧ (kd i = 1 → (cd_B s i ↔ (cd_B s (lf i) ∨ cd_B s (rt i)))) ∧
  (kd i = 2 → (cd_B s i → cd_B s (lf i) → cd_B s (rt i)) ∧ (¬ cd_B s i → ¬ cd_B s (rt i))) ∧ (kd i = 4 → ¬ cd_B s i)
def cd_KK (n : Nat) (kd lf rt : Nat → Nat) (s : Nat) : Prop := ∀ i, i < n → cd_K kd lf rt s i
def cd_W (n : Nat) (kd lf rt : Nat → Nat) : Prop := n ≤ 11 ∧ ∀ i, i < n → kd i ≤ 4 ∧ lf i < 11 ∧ rt i < 11 ∧ (kd i ≤ 2 → lf i < i ∧ rt i < i)
def cd_wf (n : Nat) (kd lf rt : Nat → Nat) : Nat → Nat → Prop
  | 0, _ => False
  | d + 1, s => cd_KK n kd lf rt s ∧ ∀ i, i < n → kd i = 2 → ¬ cd_B s i → (cd_B s (lf i) ∧ ¬ cd_B s (rt i)) ∨ ∃ t, s < t ∧ t < 2 ^ n ∧ cd_wf n kd lf rt d t ∧ cd_s s t ∧ cd_B t (lf i) ∧ ¬ cd_B t (rt i)
theorem cd_wf_st {n : Nat} {kd lf rt : Nat → Nat} : ∀ d e s, 2 ^ n - s ≤ d → 2 ^ n - s ≤ e → s < 2 ^ n → (cd_wf n kd lf rt d s ↔ cd_wf n kd lf rt e s)
  | 0, e, s, h, _, hs => by exfalso; omega
  | d + 1, 0, s, _, h, hs => by exfalso; omega
  | d + 1, e + 1, s, h1, h2, hs => by
    have key : ∀ t, s < t → t < 2 ^ n → (cd_wf n kd lf rt d t ↔ cd_wf n kd lf rt e t) := fun t a b => cd_wf_st d e t (by omega) (by omega) b
    simp only [cd_wf]
    constructor
    · rintro ⟨a, b⟩
      refine ⟨a, fun i hi hk hb => (b i hi hk hb).imp id ?_⟩
      rintro ⟨t, h3, h4, h5, h6⟩
      exact ⟨t, h3, h4, (key t h3 h4).mp h5, h6⟩
    · rintro ⟨a, b⟩
      refine ⟨a, fun i hi hk hb => (b i hi hk hb).imp id ?_⟩
      rintro ⟨t, h3, h4, h5, h6⟩
      exact ⟨t, h3, h4, (key t h3 h4).mpr h5, h6⟩
def cd_w (n : Nat) (kd lf rt : Nat → Nat) (s : Nat) : Prop := cd_wf n kd lf rt (2 ^ n - s) s
section
variable {n : Nat} {kd lf rt : Nat → Nat}
theorem cd_w_iff {s : Nat} (hs : s < 2 ^ n) : cd_w n kd lf rt s ↔ (cd_KK n kd lf rt s ∧ ∀ i, i < n → kd i = 2 → ¬ cd_B s i → (cd_B s (lf i) ∧ ¬ cd_B s (rt i)) ∨ ∃ t, s < t ∧ t < 2 ^ n ∧ cd_w n kd lf rt t ∧ cd_s s t ∧ cd_B t (lf i) ∧ ¬ cd_B t (rt i)) := by
  obtain ⟨d, hd⟩ : ∃ d, 2 ^ n - s = d + 1 := ⟨2 ^ n - s - 1, by omega⟩
  have key : ∀ t, s < t → t < 2 ^ n → (cd_wf n kd lf rt d t ↔ cd_w n kd lf rt t) := fun t a b => cd_wf_st _ _ t (by omega) (Nat.le_refl _) b
  have e : cd_w n kd lf rt s = cd_wf n kd lf rt (d + 1) s := by unfold cd_w; rw [hd]
  rw [e]
  simp only [cd_wf]
  constructor
  · rintro ⟨a, b⟩
    refine ⟨a, fun i hi hk hb => (b i hi hk hb).imp id ?_⟩
    rintro ⟨t, h3, h4, h5, h6⟩
    exact ⟨t, h3, h4, (key t h3 h4).mp h5, h6⟩
  · rintro ⟨a, b⟩
    refine ⟨a, fun i hi hk hb => (b i hi hk hb).imp id ?_⟩
    rintro ⟨t, h3, h4, h5, h6⟩
    exact ⟨t, h3, h4, (key t h3 h4).mpr h5, h6⟩
theorem cd_w_K {t : Nat} (ht : t < 2 ^ n) (h : cd_w n kd lf rt t) : ∀ i, i < n → cd_K kd lf rt t i := ((cd_w_iff ht).mp h).1
theorem cd_w_I {t i : Nat} (ht : t < 2 ^ n) (h : cd_w n kd lf rt t) (hi : i < n) (hk : kd i = 2) (hb : ¬ cd_B t i) : ∃ u, u < 2 ^ n ∧ cd_w n kd lf rt u ∧ cd_s t u ∧ cd_B u (lf i) ∧ ¬ cd_B u (rt i) := by
  rcases ((cd_w_iff ht).mp h).2 i hi hk hb with ⟨a, b⟩ | ⟨u, _, h2, h3, h4, h5, h6⟩
  · exact ⟨t, ht, h, cd_s_rf t, a, b⟩
  · exact ⟨u, h2, h3, h4, h5, h6⟩
end
def cd_C (n : Nat) (kd lf rt : Nat → Nat) (s c : Nat) : Prop := ∀ t, t < 2 ^ n → cd_w n kd lf rt t → cd_s s t → cd_B t c
def cd_Wi (P : Nat → Nat → Prop) (s now a c : Nat) : Prop := (cd_B s a → cd_B now c) ∧ (¬ cd_B s a → P (s ||| 2 ^ a) c)
def cd_M (n : Nat) (kd lf rt : Nat → Nat) (P : Nat → Nat → Prop) (s now i c : Nat) : Prop := c < n ∧ (
  (kd i = 4 ∧ cd_B now i) ∨
  (kd i = 0 ∧ ((cd_B now i ∧ (c = lf i ∨ c = rt i)) ∨ (¬ cd_B now i ∧ cd_B now (lf i) ∧ cd_B now (rt i) ∧ c = i))) ∨
  (kd i = 2 ∧ ((c = i ∧ cd_Wi P s now (lf i) (rt i)) ∨ (c = rt i ∧ cd_B now i ∧ cd_B now (lf i)))) ∨
  (kd i = 1 ∧ ((c = i ∧ (cd_B now (lf i) ∨ cd_B now (rt i))) ∨ (cd_B now i ∧ cd_Wi P s now (lf i) c ∧ cd_Wi P s now (rt i) c))))
section
variable {n : Nat} {kd lf rt : Nat → Nat}
theorem cd_C_mono {s t c : Nat} (h : cd_s s t) (hc : cd_C n kd lf rt s c) : cd_C n kd lf rt t c := fun u a b g => hc u a b (cd_s_tr h g)
theorem cd_sound {P : Nat → Nat → Prop} {s now i c : Nat} (wf : cd_W n kd lf rt)
    (hP : ∀ a c, a < n → ¬ cd_B s a → c < n → (P (s ||| 2 ^ a) c ↔ cd_C n kd lf rt (s ||| 2 ^ a) c))
    (hn : ∀ c, cd_B now c → cd_C n kd lf rt s c) (hi : i < n) (h : cd_M n kd lf rt P s now i c) : cd_C n kd lf rt s c := by
  obtain ⟨hc, h⟩ := h
  have hw := wf.2 i hi
  intro t ht tw st
  have hK := cd_w_K ht tw i hi
  have nt : ∀ c, cd_B now c → cd_B t c := fun c q => hn c q t ht tw st
  have wi : ∀ a c, a < n → c < n → cd_Wi P s now a c → ∀ u, u < 2 ^ n → cd_w n kd lf rt u → cd_s s u → cd_B u a → cd_B u c := by
    intro a c ha hc q u h1 h2 h3 h4
    by_cases sa : cd_B s a
    · exact hn c (q.1 sa) u h1 h2 h3
    · exact (hP a c ha sa hc).mp (q.2 sa) u h1 h2 (cd_s_or.mpr ⟨h3, h4⟩)
  rcases h with ⟨k, h⟩ | ⟨k, h⟩ | ⟨k, h⟩ | ⟨k, h⟩
  · exact absurd (nt _ h) (hK.2.2.2 k)
  · have e := hK.1 k
    rcases h with ⟨a, q⟩ | ⟨_, a, b, q⟩
    · rcases q with q | q
      · rw [q]; exact (e.mp (nt _ a)).1
      · rw [q]; exact (e.mp (nt _ a)).2
    · rw [q]; exact e.mpr ⟨nt _ a, nt _ b⟩
  · have hl := hw.2.2.2 (by omega)
    rcases h with ⟨q, h⟩ | ⟨q, a, b⟩
    · rw [q]
      apply Classical.byContradiction
      intro hb
      obtain ⟨u, h1, h2, h3, h4, h5⟩ := cd_w_I ht tw hi k hb
      exact h5 (wi _ _ (by omega) (by omega) h u h1 h2 (cd_s_tr st h3) h4)
    · rw [q]
      exact (hK.2.2.1 k).1 (nt _ a) (nt _ b)
  · have hl := hw.2.2.2 (by omega)
    rcases h with ⟨q, a⟩ | ⟨a, b, d⟩
    · rw [q]
      exact (hK.2.1 k).mpr (a.imp (nt _) (nt _))
    · rcases (hK.2.1 k).mp (nt _ a) with q | q
      · exact wi _ _ (by omega) hc b t ht tw st q
      · exact wi _ _ (by omega) hc d t ht tw st q
theorem cd_complete {P : Nat → Nat → Prop} {s G c : Nat} (wf : cd_W n kd lf rt)
    (hP : ∀ a c, a < n → ¬ cd_B s a → c < n → (P (s ||| 2 ^ a) c ↔ cd_C n kd lf rt (s ||| 2 ^ a) c))
    (sn : cd_s s G) (gl : G < 2 ^ n) (hn : ∀ c, cd_B G c → cd_C n kd lf rt s c)
    (cl : ∀ i c, i < n → cd_M n kd lf rt P s G i c → cd_B G c) (hc : c < n) (h : cd_C n kd lf rt s c) : cd_B G c := by
  have ab : ∀ t, t < 2 ^ n → cd_w n kd lf rt t → cd_s s t → cd_s G t := fun t a b d c q => hn c q t a b d
  by_cases w : cd_w n kd lf rt G
  · exact h G gl w sn
  · apply Classical.byContradiction
    intro nc
    apply w
    rw [cd_w_iff gl]
    have im : ∀ i, i < n → kd i = 2 → cd_Wi P s G (lf i) (rt i) → cd_B G i := fun i hi k q => cl i i hi ⟨hi, Or.inr (Or.inr (Or.inl ⟨k, Or.inl ⟨rfl, q⟩⟩))⟩
    refine ⟨fun i hi => ?_, fun i hi k nb => ?_⟩
    · have hw := wf.2 i hi
      refine ⟨fun k => ?_, fun k => ?_, fun k => ?_, fun k => ?_⟩
      · have hl := hw.2.2.2 (by omega)
        constructor
        · intro q
          exact ⟨cl i _ hi ⟨by omega, Or.inr (Or.inl ⟨k, Or.inl ⟨q, Or.inl rfl⟩⟩)⟩, cl i _ hi ⟨by omega, Or.inr (Or.inl ⟨k, Or.inl ⟨q, Or.inr rfl⟩⟩)⟩⟩
        · rintro ⟨a, b⟩
          by_cases q : cd_B G i
          · exact q
          · exact cl i i hi ⟨hi, Or.inr (Or.inl ⟨k, Or.inr ⟨q, a, b, rfl⟩⟩)⟩
      · have hl := hw.2.2.2 (by omega)
        constructor
        · intro q
          apply Classical.byContradiction
          intro z
          apply nc
          refine cl i c hi ⟨hc, Or.inr (Or.inr (Or.inr ⟨k, Or.inr ⟨q, ?_, ?_⟩⟩))⟩
          · exact ⟨fun sa => absurd (Or.inl (sn _ sa)) z, fun sa => (hP _ _ (by omega) sa hc).mpr (cd_C_mono cd_s_or1 h)⟩
          · exact ⟨fun sa => absurd (Or.inr (sn _ sa)) z, fun sa => (hP _ _ (by omega) sa hc).mpr (cd_C_mono cd_s_or1 h)⟩
        · intro q
          exact cl i i hi ⟨hi, Or.inr (Or.inr (Or.inr ⟨k, Or.inl ⟨rfl, q⟩⟩))⟩
      · have hl := hw.2.2.2 (by omega)
        constructor
        · intro a b
          exact cl i _ hi ⟨by omega, Or.inr (Or.inr (Or.inl ⟨k, Or.inr ⟨rfl, a, b⟩⟩))⟩
        · intro nb qb
          apply nb
          exact im i hi k ⟨fun _ => qb, fun sa => (hP _ _ (by omega) sa (by omega)).mpr (cd_C_mono cd_s_or1 (hn _ qb))⟩
      · intro q
        exact nc (cl i c hi ⟨hc, Or.inl ⟨k, q⟩⟩)
    · have hl := (wf.2 i hi).2.2.2 (by omega)
      by_cases p : (cd_B G (lf i) ∧ ¬ cd_B G (rt i))
      · exact Or.inl p
      · refine Or.inr (Classical.byContradiction fun z => nb (im i hi k ⟨fun sa => ?_, fun sa => ?_⟩))
        · exact Classical.byContradiction fun q => p ⟨sn _ sa, q⟩
        · refine (hP _ _ (by omega) sa (by omega)).mpr ?_
          intro t ht tw st
          have st2 := cd_s_or.mp st
          apply Classical.byContradiction
          intro q
          have gt := ab t ht tw st2.1
          have le := cd_s_le gt
          rcases Nat.lt_or_ge G t with lt | ge
          · exact z ⟨t, lt, ht, tw, gt, st2.2, q⟩
          · have e : t = G := by omega
            rw [e] at st2 q
            exact p ⟨st2.2, q⟩
theorem cd_yw {s : Nat} (wf : cd_W n kd lf rt) (hs : s < 2 ^ n) : cd_w n kd lf rt s ↔ ((∀ c, c < n → cd_C n kd lf rt s c → cd_B s c) ∧ ∀ i, i < n → cd_B s i → kd i ≠ 4 ∧ (kd i = 1 → cd_B s (lf i) ∨ cd_B s (rt i))) := by
  constructor
  · intro h
    have K := cd_w_K hs h
    exact ⟨fun c hc q => q s hs h (cd_s_rf s), fun i hi q => ⟨fun k => (K i hi).2.2.2 k q, fun k => ((K i hi).2.1 k).mp q⟩⟩
  · rintro ⟨cl, pr⟩
    rw [cd_w_iff hs]
    refine ⟨fun i hi => ?_, fun i hi k nb => ?_⟩
    · have hw := wf.2 i hi
      refine ⟨fun k => ?_, fun k => ?_, fun k => ?_, fun k => ?_⟩
      · have hl := hw.2.2.2 (by omega)
        constructor
        · intro q
          exact ⟨cl _ (by omega) (fun t ht tw st => (((cd_w_K ht tw i hi).1 k).mp (st _ q)).1), cl _ (by omega) (fun t ht tw st => (((cd_w_K ht tw i hi).1 k).mp (st _ q)).2)⟩
        · rintro ⟨a, b⟩
          exact cl _ hi (fun t ht tw st => ((cd_w_K ht tw i hi).1 k).mpr ⟨st _ a, st _ b⟩)
      · constructor
        · intro q
          exact (pr i hi q).2 k
        · intro q
          exact cl _ hi (fun t ht tw st => ((cd_w_K ht tw i hi).2.1 k).mpr (q.imp (st _) (st _)))
      · have hl := hw.2.2.2 (by omega)
        constructor
        · intro a b
          exact cl _ (by omega) (fun t ht tw st => ((cd_w_K ht tw i hi).2.2.1 k).1 (st _ a) (st _ b))
        · intro a b
          apply a
          refine cl _ hi (fun t ht tw st => ?_)
          apply Classical.byContradiction
          intro z
          exact ((cd_w_K ht tw i hi).2.2.1 k).2 z (st _ b)
      · intro q
        exact (pr i hi q).1 k
    · have hl := (wf.2 i hi).2.2.2 (by omega)
      apply Classical.byContradiction
      intro z
      apply nb
      refine cl _ hi (fun t ht tw st => ?_)
      apply Classical.byContradiction
      intro q
      obtain ⟨u, h1, h2, h3, h4, h5⟩ := cd_w_I ht tw hi k q
      have su := cd_s_tr st h3
      have le := cd_s_le su
      rcases Nat.lt_or_ge s u with lt | ge
      · exact z (Or.inr ⟨u, lt, h1, h2, su, h4, h5⟩)
      · have e : u = s := by omega
        rw [e] at h4 h5
        exact z (Or.inl ⟨h4, h5⟩)
end
noncomputable def cd_n (P : Nat → Prop) : Nat → Nat
  | 0 => 0
  | k + 1 => cd_n P k + @ite Nat (P k) (Classical.propDecidable (P k)) 1 0
theorem cd_n_t {P : Nat → Prop} {k : Nat} (h : P k) : cd_n P (k + 1) = cd_n P k + 1 := by simp only [cd_n]; rw [if_pos h]
theorem cd_n_f {P : Nat → Prop} {k : Nat} (h : ¬ P k) : cd_n P (k + 1) = cd_n P k := by simp only [cd_n]; rw [if_neg h]; rfl
theorem cd_n_le (P : Nat → Prop) : ∀ k, cd_n P k ≤ k
  | 0 => Nat.le_refl _
  | k + 1 => by
    have := cd_n_le P k
    by_cases h : P k
    · rw [cd_n_t h]; omega
    · rw [cd_n_f h]; omega
def cd_p (s : Nat) : Nat → Nat
  | 0 => 0
  | k + 1 => cd_p s k + (s.testBit k).toNat
theorem cd_p_le (s : Nat) : ∀ k, cd_p s k ≤ k
  | 0 => Nat.le_refl _
  | k + 1 => by
    have h1 := cd_p_le s k
    have h2 := Bool.toNat_le (s.testBit k)
    simp only [cd_p]
    omega
theorem cd_p_0 : ∀ k, cd_p 0 k = 0
  | 0 => rfl
  | k + 1 => by simp only [cd_p]; rw [cd_p_0 k, Nat.zero_testBit]; rfl
theorem cd_sm : ∀ (N A p q : Nat), p < 2 ^ N → cd_s p A → cd_s q A → q < p → q ≤ (p - 1) &&& A := by
  intro N
  induction N with
  | zero => intro A p q hp _ _ h; have : p < 1 := hp; omega
  | succ N ih =>
    intro A p q hp hA hq h
    have half : ∀ x, cd_s x A → cd_s (x / 2) (A / 2) := by
      intro x hx i hi
      have h1 : (x / 2).testBit i = true := hi
      rw [Nat.testBit_div_two] at h1
      show (A / 2).testBit i = true
      rw [Nat.testBit_div_two]
      exact hx _ h1
    have low : ∀ x, cd_s x A → x % 2 ≤ A % 2 := by
      intro x hx
      have h0 := hx 0
      have h1 : x.testBit 0 = true → A.testBit 0 = true := h0
      rw [Nat.testBit_zero, Nat.testBit_zero, decide_eq_true_eq, decide_eq_true_eq] at h1
      omega
    have hq1 := half q hq
    have hp1 := half p hA
    have hq2 := low q hq
    have d := Nat.and_div_two (a := p - 1) (b := A)
    have m := Nat.and_mod_two_eq_one (a := p - 1) (b := A)
    have hN : p / 2 < 2 ^ N := by
      have : p < 2 * 2 ^ N := by rw [Nat.pow_succ] at hp; omega
      omega
    rcases Nat.mod_two_eq_zero_or_one p with e | e
    · have d2 : (p - 1) / 2 = p / 2 - 1 := by omega
      rw [d2] at d
      have r := ih (A / 2) (p / 2) (q / 2) hN hp1 hq1 (by omega)
      rw [← d] at r
      generalize (p - 1) &&& A = z at *
      omega
    · have d2 : (p - 1) / 2 = p / 2 := by omega
      have d3 : p / 2 &&& A / 2 = p / 2 := cd_s_as (fun i t => (cd_and.mp t).1) (fun i t => cd_and.mpr ⟨t, hp1 i t⟩)
      rw [d2, d3] at d
      generalize (p - 1) &&& A = z at *
      omega
end
section
noncomputable def cd_i (P : Prop) : Int32 := @ite Int32 P (Classical.propDecidable P) 1 0
theorem cd_i_t {P : Prop} (h : P) : cd_i P = 1 := by unfold cd_i; rw [if_pos h]
theorem cd_i_f {P : Prop} (h : ¬ P) : cd_i P = 0 := by unfold cd_i; rw [if_neg h]
theorem cd_i_c {P Q : Prop} (h : P ↔ Q) : cd_i P = cd_i Q := by rw [propext h]
theorem cd_i_n (P : Prop) : narrow .boolean (.int (cd_i P)) = .int (cd_i P) := by
  rcases Classical.em P with h | h
  · rw [cd_i_t h]; rfl
  · rw [cd_i_f h]; rfl
theorem cd_i_v (P : Prop) : vp_nar .boolean (cd_i P) = cd_i P := by
  rcases Classical.em P with h | h
  · rw [cd_i_t h]; rfl
  · rw [cd_i_f h]; rfl
theorem cd_i_B (b : Bool) : cd_i (b = true) = nI b.toNat := by
  cases b
  · rw [cd_i_f (by decide)]; rfl
  · rw [cd_i_t rfl]; rfl
theorem cd_br {P A B : Prop} (f : ¬ P → A) (g : P → B) : (cd_i P = 0 → A) ∧ (¬ cd_i P = 0 → B) := by
  rcases Classical.em P with h | h
  · rw [cd_i_t h]; exact ⟨fun z => absurd z (by decide), fun _ => g h⟩
  · rw [cd_i_f h]; exact ⟨fun _ => f h, fun z => absurd rfl z⟩
theorem cd_br1 {P A B : Prop} (f : P → A) (g : ¬ P → B) : (cd_i P = 1 → A) ∧ (¬ cd_i P = 1 → B) := by
  rcases Classical.em P with h | h
  · rw [cd_i_t h]; exact ⟨fun _ => f h, fun z => absurd rfl z⟩
  · rw [cd_i_f h]; exact ⟨fun z => absurd z (by decide), fun _ => g h⟩
theorem cd_bre {P Q A B : Prop} (f : (P ↔ Q) → A) (g : ¬ (P ↔ Q) → B) : (cd_i P = cd_i Q → A) ∧ (¬ cd_i P = cd_i Q → B) := by
  rcases Classical.em P with h | h <;> rcases Classical.em Q with h2 | h2
  · rw [cd_i_t h, cd_i_t h2]; exact ⟨fun _ => f ⟨fun _ => h2, fun _ => h⟩, fun z => absurd rfl z⟩
  · rw [cd_i_t h, cd_i_f h2]; exact ⟨fun z => absurd z (by decide), fun _ => g (fun e => h2 (e.mp h))⟩
  · rw [cd_i_f h, cd_i_t h2]; exact ⟨fun z => absurd z (by decide), fun _ => g (fun e => h (e.mpr h2))⟩
  · rw [cd_i_f h, cd_i_f h2]; exact ⟨fun _ => f ⟨fun z => absurd z h, fun z => absurd z h2⟩, fun z => absurd rfl z⟩
theorem cd_if {c d A B : Prop} (e : c ↔ d) (f : d → A) (g : ¬ d → B) : (c → A) ∧ (¬ c → B) := ⟨fun h => f (e.mp h), fun h => g (fun q => h (e.mpr q))⟩
theorem cd_10 : ¬ (1 : Int32) = 0 := by decide
theorem cd_b1 : ∀ j, j < 32 → bt 1 j = decide (j = 0) := by decide +kernel
theorem cd_bit (x : Int32) {i : Nat} (hi : i < 32) : (x >>> (nI i &&& 31)) &&& 1 = cd_i (bt x i = true) := by
  apply b_ext
  intro j hj
  rw [b_and, b_sshr i hi x hj, cd_b1 j hj]
  rcases Nat.eq_zero_or_pos j with h | h
  · subst h
    rw [Nat.add_zero, if_pos hi]
    cases hb : bt x i
    · rw [cd_i_f (by decide), b_0]; rfl
    · rw [cd_i_t rfl, cd_b1 0 (by decide)]; rfl
  · rw [decide_eq_false (by omega), Bool.and_false]
    cases hb : bt x i
    · rw [cd_i_f (by decide), b_0]
    · rw [cd_i_t rfl, cd_b1 j hj, decide_eq_false (by omega)]
theorem cd_btN (s : Nat) {i : Nat} (hi : i < 32) : bt (nI s) i = s.testBit i := by
  show (BitVec.ofNat 32 s).getLsbD i = _
  rw [BitVec.getLsbD_ofNat, decide_eq_true hi, Bool.true_and]
theorem cd_bitN (s : Nat) {i : Nat} (hi : i < 32) : (nI s >>> (nI i &&& 31)) &&& 1 = cd_i (cd_B s i) := by
  rw [cd_bit _ hi, cd_btN s hi]
theorem cd_pw : ∀ i, i < 12 → ((1 : Int32) <<< (nI i &&& 31)) = nI (2 ^ i) := by decide +kernel
theorem cd_pw1 : ∀ i, i < 12 → ((1 : Int32) <<< (nI i &&& 31)) - 1 = nI (2 ^ i - 1) := by decide +kernel
theorem cd_orN (a b : Nat) : nI a ||| nI b = nI (a ||| b) := by
  apply b_ext
  intro i hi
  rw [b_or, cd_btN _ hi, cd_btN _ hi, cd_btN _ hi, Nat.testBit_or]
theorem cd_andN (a b : Nat) : nI a &&& nI b = nI (a &&& b) := by
  apply b_ext
  intro i hi
  rw [b_and, cd_btN _ hi, cd_btN _ hi, cd_btN _ hi, Nat.testBit_and]
def cd_d (s w : Nat) : Nat := s ^^^ (s &&& w)
theorem cd_dB {s w i : Nat} : cd_B (cd_d s w) i ↔ (cd_B s i ∧ ¬ cd_B w i) := by
  show (s ^^^ (s &&& w)).testBit i = true ↔ _
  rw [Nat.testBit_xor, Nat.testBit_and]
  show _ ↔ (s.testBit i = true ∧ ¬ w.testBit i = true)
  cases s.testBit i <;> cases w.testBit i <;> decide
theorem cd_dN (s w : Nat) : nI s &&& (nI w ^^^ (-1)) = nI (cd_d s w) := by
  apply b_ext
  intro i hi
  rw [b_and, b_xor, b_m1 i hi, cd_btN _ hi, cd_btN _ hi, cd_btN _ hi]
  show _ = (s ^^^ (s &&& w)).testBit i
  rw [Nat.testBit_xor, Nat.testBit_and]
  cases s.testBit i <;> cases w.testBit i <;> decide
theorem cd_d0 {s w : Nat} : cd_d s w = 0 ↔ cd_s s w := by
  constructor
  · intro h i hb
    apply Classical.byContradiction
    intro nb
    have := cd_dB.mpr ⟨hb, nb⟩
    rw [h] at this
    exact cd_0 this
  · intro h
    apply cd_s_as
    · intro i hb
      have := cd_dB.mp hb
      exact absurd (h i this.1) this.2
    · exact cd_s_0 _
theorem cd_d_lt {s w n : Nat} (h : s < 2 ^ n) : cd_d s w < 2 ^ n := cd_lt.mpr (fun i q => cd_lt.mp h i (cd_dB.mp q).1)
theorem cd_sub {s w : Nat} (hs : s < 2 ^ 11) : (nI s &&& (nI w ^^^ (-1))) = 0 ↔ cd_s s w := by
  have h : cd_d s w < 2 ^ 11 := cd_d_lt hs
  rw [cd_dN, ← nI_0, nI_eq (Nat.lt_trans h (by decide)) (by decide), cd_d0]
def cd_m (n : Nat) (v : Int32) : Nat := v.toBitVec.toNat % 2 ^ n
theorem cd_m_lt (n : Nat) (v : Int32) : cd_m n v < 2 ^ n := Nat.mod_lt _ (Nat.two_pow_pos n)
theorem cd_mB {n i : Nat} {v : Int32} : cd_B (cd_m n v) i ↔ (i < n ∧ bt v i = true) := by
  show (v.toBitVec.toNat % 2 ^ n).testBit i = true ↔ _
  rw [Nat.testBit_mod_two_pow, Bool.and_eq_true, decide_eq_true_eq]
  rfl
theorem cd_mN {n : Nat} (hn : n ≤ 11) (v : Int32) : v &&& nI (2 ^ n - 1) = nI (cd_m n v) := by
  have h := cd_2n hn
  exact pk_and v n (pk_tn (by omega))
def cd_F (f : Nat → Nat) : Nat → Int32 := fun i => nI (f i)
theorem cd_rd {f : Nat → Nat} {i : Nat} (h : i < 2 ^ 31) : cd_F f (nI i).toNatClampNeg = nI (f i) := by rw [nI_clamp h]; rfl
def cd_u (f : Nat → Nat) (i x : Nat) : Nat → Nat := fun j => if j = i then x else f j
theorem cd_u_s {f : Nat → Nat} {i x : Nat} : cd_u f i x i = x := if_pos rfl
theorem cd_u_n {f : Nat → Nat} {i x j : Nat} (h : j ≠ i) : cd_u f i x j = f j := if_neg h
theorem cd_wr {f : Nat → Nat} {i x : Nat} (h : i < 2 ^ 31) : upd (cd_F f) (nI i).toNatClampNeg (nI x) = cd_F (cd_u f i x) := by
  rw [nI_clamp h]
  funext j
  show (if j = i then nI x else nI (f j)) = nI (if j = i then x else f j)
  by_cases e : j = i
  · rw [if_pos e, if_pos e]
  · rw [if_neg e, if_neg e]
theorem cd_nb : ∀ x, x < 12 → vp_nar .byte (nI x).toInt8.toInt32 = nI x := by
  intro x hx
  rw [pk_vb]
  exact (by decide +kernel : ∀ x, x < 12 → (nI x).toInt8.toInt32 = nI x) x hx
theorem cd_ns : ∀ x, x < 2048 → vp_nar .short (nI x).toInt16.toInt32 = nI x := by
  intro x hx
  rw [pk_vs]
  exact (by decide +kernel : ∀ x, x < 2048 → (nI x).toInt16.toInt32 = nI x) x hx
theorem cd_ke {kd : Nat → Nat} {i : Nat} {A B : Prop} (k : Nat) (hi : i < 2 ^ 31) (hk : kd i ≤ 4) (hk2 : k ≤ 4) (f : kd i = k → A) (g : kd i ≠ k → B) : (cd_F kd (nI i).toNatClampNeg = nI k → A) ∧ (¬ cd_F kd (nI i).toNatClampNeg = nI k → B) := by
  rw [cd_rd hi, nI_eq (by omega) (by omega)]
  exact ⟨f, g⟩
section
variable {n fd : Nat} {kn hd yn : Int32} {kd lf rt w f : Nat → Nat} {hu tr : Nat → Int32}
theorem cd_xin {post : Int32 → Prop} {u : SX} {x y : Int32} (s i : Nat) (hx : x = nI s) (hy : y = nI i) (hi : i < 32) (h : post (cd_i (cd_B s i))) : wpX_in post u x y := by
  subst hx hy
  obtain ⟨u1, u2, u3, u4, u5, u6, u7, u8, u9⟩ := u
  unfold wpX_in
  dsimp only
  rw [cd_bitN s hi]
  exact cd_br1 (fun q => by rw [cd_i_t q] at h; exact h) (fun q => by rw [cd_i_f q] at h; exact h)
theorem cd_yhx {post : Int32 → Prop} {v : SY} {x y : Int32} (i : Nat) (hy : y = nI i) (hi : i < 32) (h : post (cd_i (bt x i = true))) : wpY_has post v x y := by
  subst hy
  obtain ⟨u1, u2, u3, u4, u5, u6, u7⟩ := v
  unfold wpY_has
  dsimp only
  rw [cd_bit x hi]
  exact cd_br1 (fun q => by rw [cd_i_t q] at h; exact h) (fun q => by rw [cd_i_f q] at h; exact h)
theorem cd_yh {post : Int32 → Prop} {v : SY} {x y : Int32} (s i : Nat) (hx : x = nI s) (hy : y = nI i) (hi : i < 32) (h : post (cd_i (cd_B s i))) : wpY_has post v x y := by
  refine cd_yhx i hy hi ?_
  rw [hx, cd_btN s hi]
  exact h
theorem cd_xev {post : Int32 → Prop} (hn : n ≤ 11) (h : post (nI (2 ^ n - 1))) : wpX_every post (nI n, kn, nI fd, hd, cd_F kd, cd_F lf, cd_F rt, cd_F w, hu) := by
  unfold wpX_every
  dsimp only
  rw [cd_pw1 n (by omega)]
  exact h
theorem cd_xmi {post : Int32 → Prop} {j : Nat} (hn : n ≤ 11) (hj : j < n) (h : post 0) : wpX_missing post (nI n, kn, nI fd, hd, cd_F kd, cd_F lf, cd_F rt, cd_F w, hu) (nI j) :=
  br_f (nI_pos (by omega)) (br_t (nI_lt hj (by omega)) h)
theorem cd_xmo {post : Int32 → Prop} {v : Int32} (hv : v < 0 ∨ nI n ≤ v) (h : post 1) : wpX_missing post (nI n, kn, nI fd, hd, cd_F kd, cd_F lf, cd_F rt, cd_F w, hu) v := by
  by_cases h0 : v < 0
  · exact br_t h0 h
  · exact br_f h0 (br_f (Int32.not_lt.mpr (hv.resolve_left h0)) h)
theorem cd_ymi {post : Int32 → Prop} {j : Nat} (hn : n ≤ 11) (hj : j < n) (h : post 1) : wpY_is post (nI n, yn, cd_F kd, cd_F lf, cd_F rt, cd_F f, tr) (nI j) :=
  br_f (nI_pos (by omega)) (br_f (nI_ge hj (by omega)) h)
theorem cd_ymo {post : Int32 → Prop} {v : Int32} (hv : v < 0 ∨ nI n ≤ v) (h : post 0) : wpY_is post (nI n, yn, cd_F kd, cd_F lf, cd_F rt, cd_F f, tr) v := by
  by_cases h0 : v < 0
  · exact br_t h0 h
  · exact br_f h0 (br_t (hv.resolve_left h0) h)
end
def cd_XI (n : Nat) (kd lf rt : Nat → Nat) (m fd : Nat) (w : Nat → Nat) : Prop :=
  (∀ j, j < fd → m ≤ w j ∧ w j < 2 ^ n ∧ cd_w n kd lf rt (w j)) ∧ (∀ t, m ≤ t → t < 2 ^ n → cd_w n kd lf rt t → ∃ j, j < fd ∧ w j = t) ∧
  (∀ i j, i < j → j < fd → w j < w i) ∧ fd + cd_n (cd_w n kd lf rt) m = cd_n (cd_w n kd lf rt) (2 ^ n)
def cd_Yf (n : Nat) (kd lf rt : Nat → Nat) (f : Nat → Nat) (s : Nat) : Prop := f s < 2 ^ n ∧ ∀ c, c < n → (cd_B (f s) c ↔ cd_C n kd lf rt s c)
def cd_XR (n : Nat) (kd lf rt : Nat → Nat) (u : SX) : Prop := ∃ (kn : Int32) (fd : Nat) (hd : Int32) (w : Nat → Nat) (hu : Nat → Int32), (¬ kn = 0 → cd_XI n kd lf rt 0 fd w) ∧ u = (nI n, kn, nI fd, hd, cd_F kd, cd_F lf, cd_F rt, cd_F w, hu)
def cd_YR (n : Nat) (kd lf rt : Nat → Nat) (v : SY) : Prop := ∃ (yn : Int32) (f : Nat → Nat) (tr : Nat → Int32), (¬ yn = 0 → ∀ s, s < 2 ^ n → cd_Yf n kd lf rt f s) ∧ v = (nI n, yn, cd_F kd, cd_F lf, cd_F rt, cd_F f, tr)
def i_Rel (k : Nat) (u : SX) (v : SY) : Prop := ∃ (n : Nat) (kd lf rt : Nat → Nat), cd_W n kd lf rt ∧ cd_XR n kd lf rt u ∧ cd_YR n kd lf rt v
theorem i_up {k : Nat} {u : SX} {v : SY} (h : i_Rel k u v) : i_Rel (k + 4) u v := h
theorem cd_XI_fd {n : Nat} {kd lf rt w : Nat → Nat} {m fd : Nat} (h : cd_XI n kd lf rt m fd w) : fd ≤ 2 ^ n := by
  have h1 := h.2.2.2
  have h2 := cd_n_le (cd_w n kd lf rt) (2 ^ n)
  omega
end
section
section
variable {n fd : Nat} {kn hd yn : Int32} {kd lf rt w f : Nat → Nat} {hu tr : Nat → Int32}
theorem cd_K0 {s i : Nat} (k : kd i = 0) : cd_K kd lf rt s i ↔ (cd_B s i ↔ (cd_B s (lf i) ∧ cd_B s (rt i))) := by
  unfold cd_K
  exact ⟨fun h => h.1 k, fun h => ⟨fun _ => h, fun e => by omega, fun e => by omega, fun e => by omega⟩⟩
theorem cd_K1 {s i : Nat} (k : kd i = 1) : cd_K kd lf rt s i ↔ (cd_B s i ↔ (cd_B s (lf i) ∨ cd_B s (rt i))) := by
  unfold cd_K
  exact ⟨fun h => h.2.1 k, fun h => ⟨fun e => by omega, fun _ => h, fun e => by omega, fun e => by omega⟩⟩
theorem cd_K2 {s i : Nat} (k : kd i = 2) : cd_K kd lf rt s i ↔ ((cd_B s i → cd_B s (lf i) → cd_B s (rt i)) ∧ (¬ cd_B s i → ¬ cd_B s (rt i))) := by
  unfold cd_K
  exact ⟨fun h => h.2.2.1 k, fun h => ⟨fun e => by omega, fun e => by omega, fun _ => h, fun e => by omega⟩⟩
theorem cd_K4 {s i : Nat} (k : kd i = 4) : cd_K kd lf rt s i ↔ ¬ cd_B s i := by
  unfold cd_K
  exact ⟨fun h => h.2.2.2 k, fun h => ⟨fun e => by omega, fun e => by omega, fun e => by omega, fun _ => h⟩⟩
theorem cd_K3 {s i : Nat} (k0 : kd i ≠ 0) (k1 : kd i ≠ 1) (k2 : kd i ≠ 2) (k4 : kd i ≠ 4) : cd_K kd lf rt s i :=
  ⟨fun e => absurd e k0, fun e => absurd e k1, fun e => absurd e k2, fun e => absurd e k4⟩
theorem cd_keep0 {post : Int32 → Prop} {s : Nat} (h : post 0) (d i : Nat) : wX_keeps_4 post (nI s) (nI n) kn (nI fd) hd (cd_F kd) (cd_F lf) (cd_F rt) (cd_F w) hu (d + 1) 0 (nI i) := by
  by_cases hc : nI n ≤ nI i
  · exact br_t hc ⟨rfl, h⟩
  · exact br_f hc (br_t rfl ⟨rfl, h⟩)
theorem cd_keep {post : Int32 → Prop} {s : Nat} (wf : cd_W n kd lf rt) : ∀ d i, i + d = n → post (cd_i (∀ j, i ≤ j → j < n → cd_K kd lf rt s j)) → wX_keeps_4 post (nI s) (nI n) kn (nI fd) hd (cd_F kd) (cd_F lf) (cd_F rt) (cd_F w) hu (d + 1) 1 (nI i) := by
  intro d
  have hn := wf.1
  induction d with
  | zero =>
    intro i hi h
    rw [cd_i_t (fun j a b => by omega)] at h
    exact br_t (nI_le (by omega) (by omega)) ⟨rfl, h⟩
  | succ d ih =>
    intro i hi h
    have hw := wf.2 i (by omega)
    have k1 : cd_K kd lf rt s i → wX_keeps_4 post (nI s) (nI n) kn (nI fd) hd (cd_F kd) (cd_F lf) (cd_F rt) (cd_F w) hu (d + 1) 1 (nI (i + 1)) := by
      intro q
      refine ih (i + 1) (by omega) ?_
      rw [← cd_i_c (P := ∀ j, i ≤ j → j < n → cd_K kd lf rt s j)]
      · exact h
      · constructor
        · intro z j a b
          exact z j (by omega) b
        · intro z j a b
          rcases Nat.eq_or_lt_of_le a with e | e
          · rw [← e]; exact q
          · exact z j e b
    have k0 : ¬ cd_K kd lf rt s i → wX_keeps_4 post (nI s) (nI n) kn (nI fd) hd (cd_F kd) (cd_F lf) (cd_F rt) (cd_F w) hu (d + 1) 0 (nI (i + 1)) := by
      intro q
      rw [cd_i_f (fun z => q (z i (Nat.le_refl _) (by omega)))] at h
      exact cd_keep0 h d (i + 1)
    have hi31 : i < 2 ^ 31 := by omega
    have vin : vp_in (nI i) 11 := vp_in_nI (by omega) (by decide)
    refine br_f (nI_ge (by omega) (by omega)) (br_f cd_10 (cd_xin s i rfl rfl (by omega) ⟨vin, cd_xin s (lf i) rfl (cd_rd hi31) (by omega) ⟨vin, cd_xin s (rt i) rfl (cd_rd hi31) (by omega) ⟨vin, cd_ke 0 hi31 hw.1 (by decide) (fun k => ?_) (fun n0 => ⟨vin, cd_ke 1 hi31 hw.1 (by decide) (fun k => ?_) (fun n1 => ⟨vin, cd_ke 2 hi31 hw.1 (by decide) (fun k => ?_) (fun n2 => ⟨vin, cd_ke 4 hi31 hw.1 (by decide) (fun k => ?_) (fun n4 => ?_)⟩)⟩)⟩)⟩⟩⟩))
    · refine cd_br (fun qa => cd_br (fun qi => nm_r (nI_1 i) (k1 ?_)) (fun qi => nm_r (nI_1 i) (k0 ?_))) (fun qa => cd_br (fun qb => cd_br (fun qi => nm_r (nI_1 i) (k1 ?_)) (fun qi => nm_r (nI_1 i) (k0 ?_))) (fun qb => cd_br1 (fun qi => nm_r (nI_1 i) (k1 ?_)) (fun qi => nm_r (nI_1 i) (k0 ?_))))
      · rw [cd_K0 k]; exact ⟨fun z => absurd z qi, fun z => absurd z.1 qa⟩
      · rw [cd_K0 k]; exact fun z => qa (z.mp qi).1
      · rw [cd_K0 k]; exact ⟨fun z => absurd z qi, fun z => absurd z.2 qb⟩
      · rw [cd_K0 k]; exact fun z => qb (z.mp qi).2
      · rw [cd_K0 k]; exact ⟨fun _ => ⟨qa, qb⟩, fun _ => qi⟩
      · rw [cd_K0 k]; exact fun z => qi (z.mpr ⟨qa, qb⟩)
    · refine cd_br (fun qa => cd_br (fun qb => cd_br (fun qi => nm_r (nI_1 i) (k1 ?_)) (fun qi => nm_r (nI_1 i) (k0 ?_))) (fun qb => cd_br1 (fun qi => nm_r (nI_1 i) (k1 ?_)) (fun qi => nm_r (nI_1 i) (k0 ?_)))) (fun qa => cd_br1 (fun qi => nm_r (nI_1 i) (k1 ?_)) (fun qi => nm_r (nI_1 i) (k0 ?_)))
      · rw [cd_K1 k]; exact ⟨fun z => absurd z qi, fun z => (z.elim qa qb).elim⟩
      · rw [cd_K1 k]; exact fun z => (z.mp qi).elim qa qb
      · rw [cd_K1 k]; exact ⟨fun _ => Or.inr qb, fun _ => qi⟩
      · rw [cd_K1 k]; exact fun z => qi (z.mpr (Or.inr qb))
      · rw [cd_K1 k]; exact ⟨fun _ => Or.inl qa, fun _ => qi⟩
      · rw [cd_K1 k]; exact fun z => qi (z.mpr (Or.inl qa))
    · refine cd_br (fun qi => cd_br (fun qb => nm_r (nI_1 i) (k1 ?_)) (fun qb => nm_r (nI_1 i) (k0 ?_))) (fun qi => cd_br (fun qa => nm_r (nI_1 i) (k1 ?_)) (fun qa => cd_br (fun qb => nm_r (nI_1 i) (k0 ?_)) (fun qb => nm_r (nI_1 i) (k1 ?_))))
      · rw [cd_K2 k]; exact ⟨fun z => absurd z qi, fun _ => qb⟩
      · rw [cd_K2 k]; exact fun z => z.2 qi qb
      · rw [cd_K2 k]; exact ⟨fun _ z => absurd z qa, fun z => absurd qi z⟩
      · rw [cd_K2 k]; exact fun z => qb (z.1 qi qa)
      · rw [cd_K2 k]; exact ⟨fun _ _ => qb, fun z => absurd qi z⟩
    · refine cd_br (fun qi => nm_r (nI_1 i) (k1 ?_)) (fun qi => nm_r (nI_1 i) (k0 ?_))
      · rw [cd_K4 k]; exact qi
      · rw [cd_K4 k]; exact fun z => z qi
    · exact nm_r (nI_1 i) (k1 (cd_K3 n0 n1 n2 n4))
theorem cd_keeps {post : Int32 → Prop} {s : Nat} (wf : cd_W n kd lf rt) (h : post (cd_i (cd_KK n kd lf rt s))) : wpX_keeps post (nI n, kn, nI fd, hd, cd_F kd, cd_F lf, cd_F rt, cd_F w, hu) (nI s) := by
  unfold wpX_keeps
  dsimp only
  refine ⟨n + 1, cd_keep wf n 0 (by omega) ?_⟩
  rw [cd_i_c (Q := cd_KK n kd lf rt s) ⟨fun z j b => z j (Nat.zero_le _) b, fun z j _ b => z j b⟩]
  exact h
def cd_P (fd : Nat) (w : Nat → Nat) (s a b : Nat) : Prop := (cd_B s a ∧ ¬ cd_B s b) ∨ ∃ j, j < fd ∧ cd_s s (w j) ∧ cd_B (w j) a ∧ ¬ cd_B (w j) b
theorem cd_part {post : Int32 → Prop} {s a b : Nat} (hs : s < 2 ^ 11) (ha : a < 11) (hb : b < 11) (hf : fd ≤ 2048) : ∀ d j, j + d = fd → post (cd_i (∃ i, j ≤ i ∧ i < fd ∧ cd_s s (w i) ∧ cd_B (w i) a ∧ ¬ cd_B (w i) b)) → wX_parts_23 post (nI s) (nI a) (nI b) (nI n) kn (nI fd) hd (cd_F kd) (cd_F lf) (cd_F rt) (cd_F w) hu (d + 1) (nI j) := by
  intro d
  induction d with
  | zero =>
    intro j hj h
    rw [cd_i_f (by rintro ⟨i, h1, h2, _⟩; omega)] at h
    exact br_t (nI_le (by omega) (by omega)) h
  | succ d ih =>
    intro j hj h
    have nx : ¬ (cd_s s (w j) ∧ cd_B (w j) a ∧ ¬ cd_B (w j) b) → wX_parts_23 post (nI s) (nI a) (nI b) (nI n) kn (nI fd) hd (cd_F kd) (cd_F lf) (cd_F rt) (cd_F w) hu (d + 1) (nI (j + 1)) := by
      intro q
      refine ih (j + 1) (by omega) ?_
      rw [← cd_i_c (P := ∃ i, j ≤ i ∧ i < fd ∧ cd_s s (w i) ∧ cd_B (w i) a ∧ ¬ cd_B (w i) b)]
      · exact h
      · constructor
        · rintro ⟨i, h1, h2, h3⟩
          rcases Nat.eq_or_lt_of_le h1 with e | e
          · rw [← e] at h3; exact absurd h3 q
          · exact ⟨i, e, h2, h3⟩
        · rintro ⟨i, h1, h2, h3⟩
          exact ⟨i, by omega, h2, h3⟩
    refine br_f (nI_ge (by omega) (by omega)) ⟨vp_in_nI (by omega) (by decide), nm_r (cd_rd (by omega)) ?_⟩
    refine cd_if (cd_sub hs) (fun q1 => cd_xin (w j) a rfl rfl (by omega) (cd_br (fun q2 => nm_r (nI_1 j) (nx (fun z => q2 z.2.1))) (fun q2 => cd_xin (w j) b rfl rfl (by omega) (cd_br (fun q3 => ?_) (fun q3 => nm_r (nI_1 j) (nx (fun z => z.2.2 q3))))))) (fun q1 => nm_r (nI_1 j) (nx (fun z => q1 z.1)))
    rw [cd_i_t ⟨j, Nat.le_refl _, by omega, q1, q2, q3⟩] at h
    exact h
theorem cd_parts {post : Int32 → Prop} {s a b : Nat} (hs : s < 2 ^ 11) (ha : a < 11) (hb : b < 11) (hf : fd ≤ 2048) (h : post (cd_i (cd_P fd w s a b))) : wpX_parts post (nI n, kn, nI fd, hd, cd_F kd, cd_F lf, cd_F rt, cd_F w, hu) (nI s) (nI a) (nI b) := by
  have nx : ¬ (cd_B s a ∧ ¬ cd_B s b) → ∃ n23 : Nat, wX_parts_23 post (nI s) (nI a) (nI b) (nI n) kn (nI fd) hd (cd_F kd) (cd_F lf) (cd_F rt) (cd_F w) hu n23 0 := by
    intro q
    refine ⟨fd + 1, cd_part hs ha hb hf fd 0 (by omega) ?_⟩
    rw [← cd_i_c (P := cd_P fd w s a b)]
    · exact h
    · constructor
      · rintro (z | ⟨j, h1, h2⟩)
        · exact absurd z q
        · exact ⟨j, Nat.zero_le _, h1, h2⟩
      · rintro ⟨j, _, h1, h2⟩
        exact Or.inr ⟨j, h1, h2⟩
  unfold wpX_parts
  dsimp only
  refine cd_xin s a rfl rfl (by omega) (cd_br (fun q => nx (fun z => q z.1)) (fun q => cd_xin s b rfl rfl (by omega) (cd_br (fun q2 => ?_) (fun q2 => nx (fun z => z.2 q2)))))
  rw [cd_i_t (P := cd_P fd w s a b) (Or.inl ⟨q, q2⟩)] at h
  exact h
theorem cd_isw0 {post : Int32 → Prop} {s : Nat} (h : post 0) (d i : Nat) : wX_isWorld_8 post (nI s) (nI n) kn (nI fd) hd (cd_F kd) (cd_F lf) (cd_F rt) (cd_F w) hu (d + 1) 0 (nI i) := by
  by_cases hc : nI n ≤ nI i
  · exact br_t hc ⟨rfl, h⟩
  · exact br_f hc (br_t rfl ⟨rfl, h⟩)
theorem cd_isw1 {post : Int32 → Prop} {s : Nat} (wf : cd_W n kd lf rt) (hs : s < 2 ^ 11) (hf : fd ≤ 2048) : ∀ d i, i + d = n → post (cd_i (∀ j, i ≤ j → j < n → kd j = 2 → ¬ cd_B s j → cd_P fd w s (lf j) (rt j))) → wX_isWorld_8 post (nI s) (nI n) kn (nI fd) hd (cd_F kd) (cd_F lf) (cd_F rt) (cd_F w) hu (d + 1) 1 (nI i) := by
  intro d
  have hn := wf.1
  induction d with
  | zero =>
    intro i hi h
    rw [cd_i_t (fun j a b => by omega)] at h
    exact br_t (nI_le (by omega) (by omega)) ⟨rfl, h⟩
  | succ d ih =>
    intro i hi h
    have hw := wf.2 i (by omega)
    have k1 : (kd i = 2 → ¬ cd_B s i → cd_P fd w s (lf i) (rt i)) → wX_isWorld_8 post (nI s) (nI n) kn (nI fd) hd (cd_F kd) (cd_F lf) (cd_F rt) (cd_F w) hu (d + 1) 1 (nI (i + 1)) := by
      intro q
      refine ih (i + 1) (by omega) ?_
      rw [← cd_i_c (P := ∀ j, i ≤ j → j < n → kd j = 2 → ¬ cd_B s j → cd_P fd w s (lf j) (rt j))]
      · exact h
      · constructor
        · intro z j a b
          exact z j (by omega) b
        · intro z j a b
          rcases Nat.eq_or_lt_of_le a with e | e
          · rw [← e]; exact q
          · exact z j e b
    have hi31 : i < 2 ^ 31 := by omega
    have vin : vp_in (nI i) 11 := vp_in_nI (by omega) (by decide)
    refine br_f (nI_ge (by omega) (by omega)) (br_f cd_10 ⟨vin, cd_ke 2 hi31 hw.1 (by decide) (fun k => ?_) (fun k => nm_r (nI_1 i) (k1 (fun z => absurd z k)))⟩)
    refine cd_xin s i rfl rfl (by omega) (cd_br (fun qi => ⟨vin, vin, ?_⟩) (fun qi => nm_r (nI_1 i) (k1 (fun _ z => absurd qi z))))
    rw [cd_rd hi31, cd_rd hi31]
    refine cd_parts hs (by omega) (by omega) hf (nm_r (nI_1 i) ?_)
    by_cases q : cd_P fd w s (lf i) (rt i)
    · rw [cd_i_t q]
      exact k1 (fun _ _ => q)
    · rw [cd_i_f q]
      rw [cd_i_f (fun z => q (z i (Nat.le_refl _) (by omega) k qi))] at h
      exact cd_isw0 h d (i + 1)
theorem cd_isw {post : Int32 → Prop} {s : Nat} (wf : cd_W n kd lf rt) (hs : s < 2 ^ 11) (hf : fd ≤ 2048) (h : post (cd_i (cd_KK n kd lf rt s ∧ ∀ j, j < n → kd j = 2 → ¬ cd_B s j → cd_P fd w s (lf j) (rt j)))) : wpX_isWorld post (nI n, kn, nI fd, hd, cd_F kd, cd_F lf, cd_F rt, cd_F w, hu) (nI s) := by
  unfold wpX_isWorld
  dsimp only
  refine cd_keeps wf ⟨n + 1, ?_⟩
  by_cases q : cd_KK n kd lf rt s
  · rw [cd_i_t q]
    refine cd_isw1 wf hs hf n 0 (by omega) ?_
    rw [cd_i_c (Q := cd_KK n kd lf rt s ∧ ∀ j, j < n → kd j = 2 → ¬ cd_B s j → cd_P fd w s (lf j) (rt j)) ⟨fun z => ⟨q, fun j b => z j (Nat.zero_le _) b⟩, fun z j _ b => z.2 j b⟩]
    exact h
  · rw [cd_i_f q]
    rw [cd_i_f (fun z => q z.1)] at h
    exact cd_isw0 h n 0
end
section
variable {n : Nat} {kn hd : Int32} {kd lf rt : Nat → Nat} {hu : Nat → Int32}
theorem cd_XIw {m fd : Nat} {w : Nat → Nat} (hm : m < 2 ^ n) (I : cd_XI n kd lf rt (m + 1) fd w) : cd_w n kd lf rt m ↔ (cd_KK n kd lf rt m ∧ ∀ j, j < n → kd j = 2 → ¬ cd_B m j → cd_P fd w m (lf j) (rt j)) := by
  rw [cd_w_iff hm]
  constructor
  · rintro ⟨a, b⟩
    refine ⟨a, fun j hj k q => ?_⟩
    rcases b j hj k q with z | ⟨t, h1, h2, h3, h4, h5, h6⟩
    · exact Or.inl z
    · obtain ⟨i, hi, e⟩ := I.2.1 t h1 h2 h3
      exact Or.inr ⟨i, hi, by rw [e]; exact h4, by rw [e]; exact h5, by rw [e]; exact h6⟩
  · rintro ⟨a, b⟩
    refine ⟨a, fun j hj k q => ?_⟩
    rcases b j hj k q with z | ⟨i, h1, h2, h3, h4⟩
    · exact Or.inl z
    · obtain ⟨g1, g2, g3⟩ := I.1 i h1
      exact Or.inr ⟨w i, g1, g2, g3, h2, h3, h4⟩
theorem cd_XIn {m fd : Nat} {w : Nat → Nat} (I : cd_XI n kd lf rt (m + 1) fd w) (h : ¬ cd_w n kd lf rt m) : cd_XI n kd lf rt m fd w := by
  refine ⟨fun j hj => ?_, fun t h1 h2 h3 => ?_, I.2.2.1, ?_⟩
  · obtain ⟨g1, g2, g3⟩ := I.1 j hj
    exact ⟨by omega, g2, g3⟩
  · rcases Nat.eq_or_lt_of_le h1 with e | e
    · rw [← e] at h3; exact absurd h3 h
    · exact I.2.1 t e h2 h3
  · have := I.2.2.2
    rw [cd_n_f h] at this
    exact this
theorem cd_XIy {m fd : Nat} {w : Nat → Nat} (hm : m < 2 ^ n) (I : cd_XI n kd lf rt (m + 1) fd w) (h : cd_w n kd lf rt m) : cd_XI n kd lf rt m (fd + 1) (cd_u w fd m) := by
  refine ⟨fun j hj => ?_, fun t h1 h2 h3 => ?_, fun i j h1 h2 => ?_, ?_⟩
  · by_cases e : j = fd
    · rw [e, cd_u_s]; exact ⟨Nat.le_refl _, hm, h⟩
    · rw [cd_u_n e]
      obtain ⟨g1, g2, g3⟩ := I.1 j (by omega)
      exact ⟨by omega, g2, g3⟩
  · rcases Nat.eq_or_lt_of_le h1 with e | e
    · exact ⟨fd, by omega, by rw [cd_u_s]; exact e⟩
    · obtain ⟨j, hj, e2⟩ := I.2.1 t e h2 h3
      exact ⟨j, by omega, by rw [cd_u_n (by omega)]; exact e2⟩
  · rw [cd_u_n (j := i) (by omega)]
    by_cases e : j = fd
    · rw [e, cd_u_s]
      have := (I.1 i (by omega)).1
      omega
    · rw [cd_u_n e]
      exact I.2.2.1 i j h1 (by omega)
  · have := I.2.2.2
    rw [cd_n_t h] at this
    omega
theorem cd_XI0 {w : Nat → Nat} : cd_XI n kd lf rt (2 ^ n) 0 w :=
  ⟨fun j hj => by omega, fun t h1 h2 => by omega, fun i j h1 h2 => by omega, by omega⟩
theorem cd_fnd {post : SX → Prop} (wf : cd_W n kd lf rt) : ∀ (m fd : Nat) (w : Nat → Nat), m ≤ 2 ^ n → cd_XI n kd lf rt m fd w → (∀ fd w, cd_XI n kd lf rt 0 fd w → post (nI n, kn, nI fd, hd, cd_F kd, cd_F lf, cd_F rt, cd_F w, hu)) → wX_find_23 post (nI n) kn hd (m + 1) (nI m - 1) (nI fd) (cd_F kd) (cd_F lf) (cd_F rt) (cd_F w) hu := by
  intro m
  have h2n := cd_2n wf.1
  induction m with
  | zero =>
    intro fd w hm I h
    exact br_t (by decide) (h fd w I)
  | succ m ih =>
    intro fd w hm I h
    have hf := cd_XI_fd I
    have e1 : nI m + (-1) = nI m - 1 := (Int32.sub_eq_add_neg _ _).symm
    rw [nI_pred]
    refine br_f (nI_pos (by omega)) (cd_isw wf (by omega) (by omega) ?_)
    rw [← cd_i_c (cd_XIw (by omega) I)]
    refine cd_br (fun q => nm_r e1 (ih fd w (by omega) (cd_XIn I q) h)) (fun q => ?_)
    have hlt : fd < 2048 := by
      have g1 := (cd_XIy (by omega) I q)
      have g2 := cd_XI_fd g1
      omega
    refine ⟨vp_in_nI hlt (by decide), nm_r ?_ (nm_r (nI_1 fd) (nm_r e1 (ih (fd + 1) (cd_u w fd m) (by omega) (cd_XIy (by omega) I q) h)))⟩
    rw [cd_ns m (by omega)]
    exact cd_wr (by omega)
theorem cd_find {post : SX → Prop} {u : SX} (wf : cd_W n kd lf rt) (hu0 : cd_XR n kd lf rt u) (h : ∀ (kn : Int32) (fd : Nat) (hd : Int32) (w : Nat → Nat) (hu : Nat → Int32), cd_XI n kd lf rt 0 fd w → post (nI n, kn, nI fd, hd, cd_F kd, cd_F lf, cd_F rt, cd_F w, hu)) : wpX_find post u := by
  obtain ⟨kn, fd, hd, w, hu, hI, rfl⟩ := hu0
  unfold wpX_find
  dsimp only
  by_cases q : kn = 0
  · refine br_t q ?_
    refine cd_xev (fd := 0) wf.1 ⟨2 ^ n + 1, ?_⟩
    have e : nI (2 ^ n - 1) = nI (2 ^ n) - 1 := by
      have h0 := Nat.two_pow_pos n
      obtain ⟨m, hm⟩ : ∃ m, 2 ^ n = m + 1 := ⟨2 ^ n - 1, by omega⟩
      rw [hm, nI_pred]
      rfl
    rw [e]
    exact cd_fnd wf (2 ^ n) 0 w (Nat.le_refl _) cd_XI0 (fun fd w I => h 1 fd hd w hu I)
  · exact br_f q (h kn fd hd w hu (hI q))
end
end
section
section
variable {n : Nat} {kd lf rt : Nat → Nat} {P : Nat → Nat → Prop} {s now i c : Nat}
theorem cd_M4 (k : kd i = 4) : cd_M n kd lf rt P s now i c ↔ (c < n ∧ cd_B now i) := by
  unfold cd_M
  constructor
  · rintro ⟨h, ⟨_, q⟩ | ⟨e, _⟩ | ⟨e, _⟩ | ⟨e, _⟩⟩
    · exact ⟨h, q⟩
    · omega
    · omega
    · omega
  · rintro ⟨h, q⟩
    exact ⟨h, Or.inl ⟨k, q⟩⟩
theorem cd_M3 (k : kd i = 3) : ¬ cd_M n kd lf rt P s now i c := by
  unfold cd_M
  rintro ⟨h, ⟨e, _⟩ | ⟨e, _⟩ | ⟨e, _⟩ | ⟨e, _⟩⟩ <;> omega
theorem cd_M0 (k : kd i = 0) : cd_M n kd lf rt P s now i c ↔ (c < n ∧ ((cd_B now i ∧ (c = lf i ∨ c = rt i)) ∨ (¬ cd_B now i ∧ cd_B now (lf i) ∧ cd_B now (rt i) ∧ c = i))) := by
  unfold cd_M
  constructor
  · rintro ⟨h, ⟨e, _⟩ | ⟨_, q⟩ | ⟨e, _⟩ | ⟨e, _⟩⟩
    · omega
    · exact ⟨h, q⟩
    · omega
    · omega
  · rintro ⟨h, q⟩
    exact ⟨h, Or.inr (Or.inl ⟨k, q⟩)⟩
theorem cd_M2 (k : kd i = 2) : cd_M n kd lf rt P s now i c ↔ (c < n ∧ ((c = i ∧ cd_Wi P s now (lf i) (rt i)) ∨ (c = rt i ∧ cd_B now i ∧ cd_B now (lf i)))) := by
  unfold cd_M
  constructor
  · rintro ⟨h, ⟨e, _⟩ | ⟨e, _⟩ | ⟨_, q⟩ | ⟨e, _⟩⟩
    · omega
    · omega
    · exact ⟨h, q⟩
    · omega
  · rintro ⟨h, q⟩
    exact ⟨h, Or.inr (Or.inr (Or.inl ⟨k, q⟩))⟩
theorem cd_M1 (k : kd i = 1) : cd_M n kd lf rt P s now i c ↔ (c < n ∧ ((c = i ∧ (cd_B now (lf i) ∨ cd_B now (rt i))) ∨ (cd_B now i ∧ cd_Wi P s now (lf i) c ∧ cd_Wi P s now (rt i) c))) := by
  unfold cd_M
  constructor
  · rintro ⟨h, ⟨e, _⟩ | ⟨e, _⟩ | ⟨e, _⟩ | ⟨_, q⟩⟩
    · omega
    · omega
    · omega
    · exact ⟨h, q⟩
  · rintro ⟨h, q⟩
    exact ⟨h, Or.inr (Or.inr (Or.inr ⟨k, q⟩))⟩
end
theorem cd_bth {a b i : Nat} : cd_B (2 ^ a ||| 2 ^ b) i ↔ (i = a ∨ i = b) := by rw [cd_or, cd_2, cd_2]
theorem cd_all2 {x a b : Nat} : x &&& (2 ^ a ||| 2 ^ b) = 2 ^ a ||| 2 ^ b ↔ (cd_B x a ∧ cd_B x b) := by
  constructor
  · intro e
    have h : ∀ i, cd_B (2 ^ a ||| 2 ^ b) i → cd_B x i := fun i q => by
      rw [← e] at q
      exact (cd_and.mp q).1
    exact ⟨h a (cd_bth.mpr (Or.inl rfl)), h b (cd_bth.mpr (Or.inr rfl))⟩
  · rintro ⟨h1, h2⟩
    refine cd_s_as (fun i q => (cd_and.mp q).2) (fun i q => cd_and.mpr ⟨?_, q⟩)
    rcases cd_bth.mp q with e | e
    · rw [e]; exact h1
    · rw [e]; exact h2
theorem cd_any2 {x a b : Nat} : x &&& (2 ^ a ||| 2 ^ b) = 0 ↔ ¬ (cd_B x a ∨ cd_B x b) := by
  constructor
  · intro e h
    have z : ∀ i, ¬ cd_B (x &&& (2 ^ a ||| 2 ^ b)) i := fun i => by rw [e]; exact cd_0
    rcases h with h | h
    · exact z a (cd_and.mpr ⟨h, cd_bth.mpr (Or.inl rfl)⟩)
    · exact z b (cd_and.mpr ⟨h, cd_bth.mpr (Or.inr rfl)⟩)
  · intro h
    refine cd_s_as (fun i q => ?_) (cd_s_0 _)
    obtain ⟨q1, q2⟩ := cd_and.mp q
    rcases cd_bth.mp q2 with e | e
    · rw [e] at q1; exact absurd (Or.inl q1) h
    · rw [e] at q1; exact absurd (Or.inr q1) h
section
variable {n : Nat} {yn : Int32} {kd lf rt f : Nat → Nat} {tr : Nat → Int32}
theorem cd_ywith {post : Int32 → Prop} {s now a : Nat} (hn : n ≤ 11) (hs : s < 2 ^ n) (hw : now < 2 ^ n) (ha : a < n) (hf : ∀ t, s < t → t < 2 ^ n → f t < 2 ^ n) (h : ∀ r, r < 2 ^ n → (∀ c, cd_B r c ↔ cd_Wi (fun t c => cd_B (f t) c) s now a c) → post (nI r)) : wpY_with post (nI n, yn, cd_F kd, cd_F lf, cd_F rt, cd_F f, tr) (nI s) (nI a) (nI now) := by
  have h2n := cd_2n hn
  unfold wpY_with
  dsimp only
  refine cd_yh s a rfl rfl (by omega) (cd_br (fun q => ?_) (fun q => h now hw (fun c => ⟨fun z => ⟨fun _ => z, fun y => absurd q y⟩, fun z => z.1 q⟩)))
  have e : nI s ||| ((1 : Int32) <<< (nI a &&& 31)) = nI (s ||| 2 ^ a) := by rw [cd_pw a (by omega), cd_orN]
  have hlt := cd_or_lt hs ha
  have hlt31 : (s ||| 2 ^ a) < 2 ^ 31 := by omega
  rw [e, cd_rd hlt31]
  exact ⟨vp_in_nI (by omega) (by decide), h _ (hf _ (cd_or_gt q) hlt) (fun c => ⟨fun z => ⟨fun y => absurd y q, fun _ => z⟩, fun z => z.2 q⟩)⟩
theorem cd_145 {post : Int32 → Prop} {now i a b z : Nat} (ha : a < 11) (hb : b < 11) (h1 : ¬ (cd_B now i ∧ cd_B now a) → post (nI z)) (h2 : cd_B now i ∧ cd_B now a → post (nI (z ||| 2 ^ b))) : wY_more_145 post (nI now) (nI a) (nI b) (cd_i (cd_B now i)) (nI z) (nI n) yn (cd_F kd) (cd_F lf) (cd_F rt) (cd_F f) tr := by
  refine cd_br (fun q => h1 (fun y => q y.1)) (fun q => cd_yh now a rfl rfl (by omega) (cd_br (fun q2 => h1 (fun y => q2 y.2)) (fun q2 => ?_)))
  rw [cd_pw b (by omega), cd_orN]
  exact h2 ⟨q, q2⟩
theorem cd_199 {post : Int32 → Prop} {now i one other z : Nat} (h1 : ¬ cd_B now i → post (nI z)) (h2 : cd_B now i → post (nI ((one &&& other) ||| z))) : wY_more_199 post (cd_i (cd_B now i)) (nI one) (nI other) (nI z) (nI n) yn (cd_F kd) (cd_F lf) (cd_F rt) (cd_F f) tr := by
  refine cd_br h1 (fun q => ?_)
  rw [cd_andN, cd_orN]
  exact h2 q
theorem cd_more {post : Int32 → Prop} {s now i : Nat} (wf : cd_W n kd lf rt) (hs : s < 2 ^ n) (hw : now < 2 ^ n) (hi : i < n) (hf : ∀ t, s < t → t < 2 ^ n → f t < 2 ^ n) (h : ∀ r, r < 2 ^ n → (∀ c, cd_B r c ↔ cd_M n kd lf rt (fun t c => cd_B (f t) c) s now i c) → post (nI r)) : wpY_more post (nI n, yn, cd_F kd, cd_F lf, cd_F rt, cd_F f, tr) (nI s) (nI now) (nI i) := by
  have hn := wf.1
  have h2n := cd_2n hn
  have hk := (wf.2 i hi).1
  have hl11 := (wf.2 i hi).2.1
  have hr11 := (wf.2 i hi).2.2.1
  have hlr := (wf.2 i hi).2.2.2
  have hi31 : i < 2 ^ 31 := by omega
  have vin : vp_in (nI i) 11 := vp_in_nI (by omega) (by decide)
  have hp := Nat.two_pow_pos n
  have b2 : ∀ j, j < n → 2 ^ j < 2 ^ n := fun j hj => cd_lt.mpr (fun i q => by rw [cd_2] at q; omega)
  have e8 : ((1 : Int32) <<< (nI (lf i) &&& 31)) ||| ((1 : Int32) <<< (nI (rt i) &&& 31)) = nI (2 ^ lf i ||| 2 ^ rt i) := by
    rw [cd_pw _ (by omega), cd_pw _ (by omega), cd_orN]
  unfold wpY_more
  dsimp only
  refine ⟨vin, nm_r (cd_rd hi31) ⟨vin, nm_r (cd_rd hi31) ⟨vin, nm_r (cd_rd hi31) ?_⟩⟩⟩
  refine pk_eq (kd i) 4 (fun k => ?_) (fun k4 => pk_eq (kd i) 3 (fun k => ?_) (fun k3 => cd_yh now i rfl rfl (by omega) (nm_r e8 (pk_eq (kd i) 0 (fun k => ?_) (fun k0 => cd_ywith hn hs hw (Nat.lt_trans (hlr (by omega)).1 hi) hf (fun one h1 b1 => pk_eq (kd i) 2 (fun k => ?_) (fun k2 => cd_ywith hn hs hw (Nat.lt_trans (hlr (by omega)).2 hi) hf (fun other g1 b3 => ?_))))))))
  · refine cd_yh now i rfl rfl (by omega) (cd_br (fun q => h 0 (by omega) (fun c => ?_)) (fun q => ?_))
    · rw [cd_M4 k]
      exact ⟨fun z => absurd z cd_0, fun z => absurd z.2 q⟩
    · rw [cd_pw1 n (by omega)]
      refine h _ (by omega) (fun c => ?_)
      rw [cd_M4 k, cd_ev]
      exact ⟨fun z => ⟨z, q⟩, fun z => z.1⟩
  · exact h 0 (by omega) (fun c => ⟨fun z => absurd z cd_0, fun z => absurd z (cd_M3 k)⟩)
  · have hlr2 := hlr (by omega)
    have bb : 2 ^ lf i ||| 2 ^ rt i < 2 ^ n := Nat.or_lt_two_pow (b2 _ (by omega)) (b2 _ (by omega))
    refine cd_br (fun q => cd_if (d := cd_B now (lf i) ∧ cd_B now (rt i)) ?_ (fun q2 => ?_) (fun q2 => ?_)) (fun q => h _ bb (fun c => ?_))
    · rw [cd_andN, nI_eq (Nat.lt_of_lt_of_le (Nat.and_lt_two_pow _ bb) (by omega)) (by omega)]
      exact cd_all2
    · rw [cd_pw i (by omega)]
      refine h _ (b2 i hi) (fun c => ?_)
      rw [cd_M0 k, cd_2]
      exact ⟨fun z => ⟨by omega, Or.inr ⟨q, q2.1, q2.2, z⟩⟩, fun z => z.2.elim (fun y => absurd y.1 q) (fun y => y.2.2.2)⟩
    · refine h 0 (by omega) (fun c => ?_)
      rw [cd_M0 k]
      exact ⟨fun z => absurd z cd_0, fun z => z.2.elim (fun y => absurd y.1 q) (fun y => absurd ⟨y.2.1, y.2.2.1⟩ q2)⟩
    · rw [cd_M0 k, cd_bth]
      exact ⟨fun z => ⟨by omega, Or.inl ⟨q, z⟩⟩, fun z => z.2.elim (fun y => y.2) (fun y => absurd q y.1)⟩
  · have hlr2 := hlr (by omega)
    refine cd_yh one (rt i) rfl rfl (by omega) (cd_br (fun q => ?_) (fun q => ?_))
    · have q2 := fun y => q ((b1 _).mpr y)
      refine cd_145 (z := 0) hl11 hr11 (fun y => h 0 (by omega) (fun c => ?_)) (fun y => h _ (Nat.or_lt_two_pow (by omega) (b2 _ (by omega))) (fun c => ?_))
      · rw [cd_M2 k]
        exact ⟨fun z => absurd z cd_0, fun z => z.2.elim (fun x => absurd x.2 q2) (fun x => absurd x.2 y)⟩
      · rw [cd_M2 k, cd_or2]
        exact ⟨fun z => z.elim (fun x => absurd x cd_0) (fun x => ⟨by omega, Or.inr ⟨x, y⟩⟩), fun z => z.2.elim (fun x => absurd x.2 q2) (fun x => Or.inr x.1)⟩
    · have q2 := (b1 _).mp q
      rw [cd_pw i (by omega)]
      refine cd_145 hl11 hr11 (fun y => h _ (b2 i hi) (fun c => ?_)) (fun y => h _ (Nat.or_lt_two_pow (b2 i hi) (b2 _ (by omega))) (fun c => ?_))
      · rw [cd_M2 k, cd_2]
        exact ⟨fun z => ⟨by omega, Or.inl ⟨z, q2⟩⟩, fun z => z.2.elim (fun x => x.1) (fun x => absurd x.2 y)⟩
      · rw [cd_M2 k, cd_bth]
        exact ⟨fun z => z.elim (fun x => ⟨by omega, Or.inl ⟨x, q2⟩⟩) (fun x => ⟨by omega, Or.inr ⟨x, y⟩⟩), fun z => z.2.elim (fun x => Or.inl x.1) (fun x => Or.inr x.1)⟩
  · have k : kd i = 1 := by omega
    have hlr2 := hlr (by omega)
    have oo : one &&& other < 2 ^ n := Nat.and_lt_two_pow _ g1
    have bb : 2 ^ lf i ||| 2 ^ rt i < 2 ^ n := Nat.or_lt_two_pow (b2 _ (by omega)) (b2 _ (by omega))
    have ob : ∀ c, cd_B (one &&& other) c ↔ (cd_Wi (fun t c => cd_B (f t) c) s now (lf i) c ∧ cd_Wi (fun t c => cd_B (f t) c) s now (rt i) c) := fun c => by rw [cd_and, b1, b3]
    refine cd_if (d := ¬ (cd_B now (lf i) ∨ cd_B now (rt i))) ?_ (fun q => ?_) (fun q => ?_)
    · rw [cd_andN, ← nI_0, nI_eq (Nat.lt_of_lt_of_le (Nat.and_lt_two_pow _ bb) (by omega)) (by omega)]
      exact cd_any2
    · refine cd_199 (z := 0) (fun y => h 0 (by omega) (fun c => ?_)) (fun y => h _ (Nat.or_lt_two_pow oo (by omega)) (fun c => ?_))
      · rw [cd_M1 k]
        exact ⟨fun z => absurd z cd_0, fun z => z.2.elim (fun x => absurd x.2 q) (fun x => absurd x.1 y)⟩
      · rw [cd_M1 k, Nat.or_zero]
        exact ⟨fun z => ⟨cd_lt.mp oo c z, Or.inr ⟨y, (ob c).mp z⟩⟩, fun z => z.2.elim (fun x => absurd x.2 q) (fun x => (ob c).mpr x.2)⟩
    · have q' := Classical.not_not.mp q
      rw [cd_pw i (by omega)]
      refine cd_199 (fun y => h _ (b2 i hi) (fun c => ?_)) (fun y => h _ (Nat.or_lt_two_pow oo (b2 i hi)) (fun c => ?_))
      · rw [cd_M1 k, cd_2]
        exact ⟨fun z => ⟨by omega, Or.inl ⟨z, q'⟩⟩, fun z => z.2.elim (fun x => x.1) (fun x => absurd x.1 y)⟩
      · rw [cd_M1 k, cd_or2]
        exact ⟨fun z => z.elim (fun x => ⟨cd_lt.mp oo c x, Or.inr ⟨y, (ob c).mp x⟩⟩) (fun x => ⟨by omega, Or.inl ⟨x, q'⟩⟩), fun z => z.2.elim (fun x => Or.inr x.1) (fun x => Or.inl ((ob c).mpr x.2))⟩
end
def cd_V (n : Nat) (kd lf rt : Nat → Nat) (f : Nat → Nat) (s b i now : Nat) : Prop := now < 2 ^ n ∧ cd_s s now ∧ cd_s b now ∧ (∀ c, cd_B now c → cd_C n kd lf rt s c) ∧ (now = b → ∀ j c, j < i → cd_M n kd lf rt (fun t c => cd_B (f t) c) s b j c → cd_B b c)
section
variable {n : Nat} {yn : Int32} {kd lf rt f : Nat → Nat} {tr : Nat → Int32}
theorem cd_hP {s : Nat} (hs : s < 2 ^ n) (hP : ∀ t, s < t → t < 2 ^ n → cd_Yf n kd lf rt f t) : ∀ a c, a < n → ¬ cd_B s a → c < n → ((fun t c => cd_B (f t) c) (s ||| 2 ^ a) c ↔ cd_C n kd lf rt (s ||| 2 ^ a) c) :=
  fun a c ha q hc => (hP _ (cd_or_gt q) (cd_or_lt hs ha)).2 c hc
theorem cd_w40 {post : SY → Prop} {J22 : Int32 → (Nat → Int32) → (Nat → Int32) → (Nat → Int32) → (Nat → Int32) → (Nat → Int32) → Prop} {J30 : Int32 → Int32 → Prop} {x3 : Int32} {s b : Nat} (wf : cd_W n kd lf rt) (hs : s < 2 ^ n) (hP : ∀ t, s < t → t < 2 ^ n → cd_Yf n kd lf rt f t) (K : ∀ z, cd_V n kd lf rt f s b n z → J30 (nI z) x3) : ∀ d i now, i + d = n → cd_V n kd lf rt f s b i now → wY_work_40 post J22 J30 (nI s) x3 (nI n) yn (cd_F kd) (cd_F lf) (cd_F rt) (cd_F f) tr (d + 1) (nI now) (nI i) := by
  intro d
  have hn := wf.1
  induction d with
  | zero =>
    intro i now hi V
    have e : i = n := by omega
    subst e
    exact br_t (nI_le (Nat.le_refl _) (by omega)) (K now V)
  | succ d ih =>
    intro i now hi V
    refine br_f (nI_ge (by omega) (by omega)) (cd_more wf hs V.1 (by omega) (fun t a b => (hP t a b).1) (fun r hr br => nm_r (cd_orN now r) (nm_r (nI_1 i) (ih (i + 1) (now ||| r) (by omega) ?_))))
    obtain ⟨v1, v2, v3, v4, v5⟩ := V
    have mn : cd_s now (now ||| r) := fun j q => cd_or.mpr (Or.inl q)
    refine ⟨Nat.or_lt_two_pow v1 hr, cd_s_tr v2 mn, cd_s_tr v3 mn, fun c q => ?_, fun e j c hj q => ?_⟩
    · rcases cd_or.mp q with z | z
      · exact v4 c z
      · exact cd_sound wf (cd_hP hs hP) v4 (by omega) ((br c).mp z)
    · have e2 : now = b := cd_s_as (by rw [← e]; exact mn) v3
      rcases Nat.lt_or_ge j i with l | l
      · exact v5 e2 j c l q
      · have e3 : j = i := by omega
        rw [e3, ← e2] at q
        have q2 := (br c).mpr q
        have q3 : cd_B (now ||| r) c := cd_or.mpr (Or.inr q2)
        rw [e] at q3
        exact q3
theorem cd_w30 {post : SY → Prop} {J22 : Int32 → (Nat → Int32) → (Nat → Int32) → (Nat → Int32) → (Nat → Int32) → (Nat → Int32) → Prop} {s : Nat} (wf : cd_W n kd lf rt) (hs : s < 2 ^ n) (hP : ∀ t, s < t → t < 2 ^ n → cd_Yf n kd lf rt f t) (hJ : ∀ r, r < 2 ^ n → (∀ c, c < n → (cd_B r c ↔ cd_C n kd lf rt s c)) → J22 (nI s - 1) (cd_F kd) (cd_F lf) (cd_F rt) (cd_F (cd_u f s r)) tr) : ∀ d now x3, now < 2 ^ n → 2 ^ n - now ≤ d → ¬ nI now = x3 → cd_s s now → (∀ c, cd_B now c → cd_C n kd lf rt s c) → wY_work_30 post J22 (nI s) (nI n) yn (cd_F kd) (cd_F lf) (cd_F rt) (cd_F f) tr (d + 1) (nI now) x3 := by
  intro d
  have h2n := cd_2n wf.1
  have e1 : nI s + (-1) = nI s - 1 := (Int32.sub_eq_add_neg _ _).symm
  induction d with
  | zero => intro now x3 h1 h2; omega
  | succ d ih =>
    intro now x3 h1 h2 h3 h4 h5
    refine br_f h3 ⟨n + 1, cd_w40 (b := now) wf hs hP (fun z V => ?_) n 0 now (by omega) ⟨h1, h4, cd_s_rf _, h5, fun _ j c hj => by omega⟩⟩
    obtain ⟨v1, v2, v3, v4, v5⟩ := V
    by_cases e : z = now
    · subst e
      refine br_t rfl ⟨vp_in_nI (by omega) (by decide), nm_r (cd_wr (by omega)) (nm_r e1 (hJ z v1 (fun c hc => ⟨v4 c, fun q => ?_⟩)))⟩
      exact cd_complete wf (cd_hP hs hP) v2 v1 v4 (fun i c hi q => v5 rfl i c hi q) hc q
    · have lt : now < z := by
        have := cd_s_le v3
        omega
      exact ih z (nI now) v1 (by omega) (fun q => e ((nI_eq (by omega) (by omega)).mp q)) v2 v4
theorem cd_w22 {post : SY → Prop} (wf : cd_W n kd lf rt) (h : ∀ f, (∀ t, t < 2 ^ n → cd_Yf n kd lf rt f t) → post (nI n, yn, cd_F kd, cd_F lf, cd_F rt, cd_F f, tr)) : ∀ (m : Nat) (f : Nat → Nat), m ≤ 2 ^ n → (∀ t, m ≤ t → t < 2 ^ n → cd_Yf n kd lf rt f t) → wY_work_22 post (nI n) yn (m + 1) (nI m - 1) (cd_F kd) (cd_F lf) (cd_F rt) (cd_F f) tr := by
  intro m
  have h2n := cd_2n wf.1
  induction m with
  | zero =>
    intro f hm I
    exact br_t (by decide) (h f (fun t ht => I t (Nat.zero_le _) ht))
  | succ m ih =>
    intro f hm I
    rw [nI_pred]
    have hneg : ¬ nI m < 0 := nI_pos (by omega)
    refine br_f hneg ⟨2 ^ n + 1, cd_w30 wf (by omega) (fun t a b => I t a b) (fun r h1 h2 => ih (cd_u f m r) (by omega) (fun t a b => ?_)) (2 ^ n) m (-1) (by omega) (by omega) (fun e => hneg (by rw [e]; decide)) (cd_s_rf m) (fun c q t _ _ st => st c q)⟩
    rcases Nat.eq_or_lt_of_le a with e | e
    · subst e
      unfold cd_Yf
      rw [cd_u_s]
      exact ⟨h1, h2⟩
    · have := I t e b
      unfold cd_Yf at this ⊢
      rw [cd_u_n (by omega)]
      exact this
theorem cd_evm : nI (2 ^ n - 1) = nI (2 ^ n) - 1 := by
  have h0 := Nat.two_pow_pos n
  obtain ⟨m, hm⟩ : ∃ m, 2 ^ n = m + 1 := ⟨2 ^ n - 1, by omega⟩
  rw [hm, nI_pred]
  rfl
theorem cd_work {post : SY → Prop} {v : SY} (wf : cd_W n kd lf rt) (hv : cd_YR n kd lf rt v) (h : ∀ (yn : Int32) (f : Nat → Nat) (tr : Nat → Int32), (∀ s, s < 2 ^ n → cd_Yf n kd lf rt f s) → post (nI n, yn, cd_F kd, cd_F lf, cd_F rt, cd_F f, tr)) : wpY_work post v := by
  obtain ⟨yn, f, tr, hI, rfl⟩ := hv
  have hn := wf.1
  unfold wpY_work
  dsimp only
  by_cases q : yn = 0
  · refine br_t q (nm_r ((cd_pw1 n (by omega)).trans cd_evm) ⟨2 ^ n + 1, ?_⟩)
    exact cd_w22 wf (fun f I => h 1 f tr I) (2 ^ n) f (Nat.le_refl _) (fun t a b => by omega)
  · exact br_f q (h yn f tr (hI q))
theorem cd_taken {post : Int32 → SY → Prop} {v : SY} {x : Int32} (wf : cd_W n kd lf rt) (hv : cd_YR n kd lf rt v) (h : ∀ (yn : Int32) (f : Nat → Nat) (tr : Nat → Int32), (∀ s, s < 2 ^ n → cd_Yf n kd lf rt f s) → post (nI (cd_m n x)) (nI n, yn, cd_F kd, cd_F lf, cd_F rt, cd_F f, tr)) : wpY_taken post v x := by
  have hn := wf.1
  have e : wpY_taken post v x = wpY_work (fun u => match u with | (f_size_2, f_known_3, a_sorts_4, a_lefts_5, a_rights_6, a_follow_7, a_truth_8) => post (x &&& (((1 : Int32) <<< (f_size_2 &&& 31)) - 1)) (f_size_2, f_known_3, a_sorts_4, a_lefts_5, a_rights_6, a_follow_7, a_truth_8)) v := by
    obtain ⟨v1, v2, v3, v4, v5, v6, v7⟩ := v
    rfl
  rw [e]
  refine cd_work wf hv (fun yn f tr I => ?_)
  dsimp only
  rw [cd_pw1 n (by omega), cd_mN hn]
  exact h yn f tr I
end
end
section
section
variable {n fd : Nat} {kn hd : Int32} {kd lf rt w : Nat → Nat} {hu : Nat → Int32}
theorem cd_CX {s c : Nat} (hI : cd_XI n kd lf rt 0 fd w) : cd_C n kd lf rt s c ↔ ∀ i, i < fd → cd_s s (w i) → cd_B (w i) c := by
  constructor
  · intro h i hi q
    obtain ⟨_, g2, g3⟩ := hI.1 i hi
    exact h _ g2 g3 q
  · intro h t h1 h2 h3
    obtain ⟨j, hj, e⟩ := hI.2.1 t (Nat.zero_le _) h1 h2
    have := h j hj (by rw [e]; exact h3)
    rw [e] at this
    exact this
theorem cd_clo {post : Int32 → Prop} {s : Nat} (hn : n ≤ 11) (hs : s < 2 ^ n) (hI : cd_XI n kd lf rt 0 fd w) (K : ∀ r, r < 2 ^ n → (∀ c, c < n → (cd_B r c ↔ cd_C n kd lf rt s c)) → post (nI r)) : ∀ d j acc, j + d = fd → acc < 2 ^ n → (∀ c, c < n → (cd_B acc c ↔ ∀ i, i < j → cd_s s (w i) → cd_B (w i) c)) → wX_closure_7 post (nI s) (nI n) kn (nI fd) hd (cd_F kd) (cd_F lf) (cd_F rt) (cd_F w) hu (d + 1) (nI acc) (nI j) := by
  intro d
  have h2n := cd_2n hn
  have hf := cd_XI_fd hI
  induction d with
  | zero =>
    intro j acc hj ha h
    have e : j = fd := by omega
    subst e
    refine br_t (nI_le (Nat.le_refl _) (by omega)) (K acc ha (fun c hc => ?_))
    rw [cd_CX hI]
    exact h c hc
  | succ d ih =>
    intro j acc hj ha h
    have hj31 : j < 2 ^ 31 := by omega
    have vin : vp_in (nI j) 2048 := vp_in_nI (by omega) (by decide)
    refine br_f (nI_ge (by omega) (by omega)) ⟨vin, ?_⟩
    rw [cd_rd hj31]
    refine cd_if (cd_sub (by omega)) (fun q => ⟨vin, nm_r (cd_andN acc (w j)) (nm_r (nI_1 j) (ih (j + 1) _ (by omega) ?_ (fun c hc => ?_)))⟩) (fun q => nm_r (nI_1 j) (ih (j + 1) acc (by omega) ha (fun c hc => ?_)))
    · exact cd_lt.mpr (fun i z => cd_lt.mp ha i (cd_and.mp z).1)
    · rw [cd_and, h c hc]
      constructor
      · rintro ⟨z1, z2⟩ i hi g
        by_cases e : i = j
        · rw [e]; exact z2
        · exact z1 i (by omega) g
      · intro z
        exact ⟨fun i hi g => z i (by omega) g, z j (by omega) q⟩
    · rw [h c hc]
      constructor
      · intro z i hi g
        by_cases e : i = j
        · rw [e] at g; exact absurd g q
        · exact z i (by omega) g
      · intro z i hi g
        exact z i (by omega) g
theorem cd_closure {post : Int32 → Prop} {s : Nat} (hn : n ≤ 11) (hs : s < 2 ^ n) (hI : cd_XI n kd lf rt 0 fd w) (K : ∀ r, r < 2 ^ n → (∀ c, c < n → (cd_B r c ↔ cd_C n kd lf rt s c)) → post (nI r)) : wpX_closure post (nI n, kn, nI fd, hd, cd_F kd, cd_F lf, cd_F rt, cd_F w, hu) (nI s) := by
  have h0 := Nat.two_pow_pos n
  unfold wpX_closure
  dsimp only
  refine cd_xev hn ⟨fd + 1, cd_clo hn hs hI K fd 0 _ (by omega) (by omega) (fun c hc => ?_)⟩
  rw [cd_ev]
  exact ⟨fun _ i hi => by omega, fun _ => hc⟩
theorem cd_alk0 {post : Int32 → SX → Prop} {a b : Nat} (hf : fd ≤ 2048) (h : post 0 (nI n, kn, nI fd, hd, cd_F kd, cd_F lf, cd_F rt, cd_F w, hu)) : ∀ d j, j + d = fd → wX_alike_27 post (nI a) (nI b) (nI n) kn (nI fd) hd (cd_F kd) (cd_F lf) (cd_F rt) (cd_F w) hu (d + 1) 0 (nI j) := by
  intro d
  induction d with
  | zero =>
    intro j hj
    exact br_t (nI_le (by omega) (by omega)) (br_t rfl h)
  | succ d ih =>
    intro j hj
    exact br_f (nI_ge (by omega) (by omega)) (br_t rfl (nm_r (nI_1 j) (ih (j + 1) (by omega))))
theorem cd_alk {post : Int32 → SX → Prop} {a b : Nat} (hf : fd ≤ 2048) (ha : a < 11) (hb : b < 11) : ∀ d j, j + d = fd → post (cd_i (∀ i, j ≤ i → i < fd → (cd_B (w i) a ↔ cd_B (w i) b))) (nI n, kn, nI fd, hd, cd_F kd, cd_F lf, cd_F rt, cd_F w, hu) → wX_alike_27 post (nI a) (nI b) (nI n) kn (nI fd) hd (cd_F kd) (cd_F lf) (cd_F rt) (cd_F w) hu (d + 1) 1 (nI j) := by
  intro d
  induction d with
  | zero =>
    intro j hj h
    rw [cd_i_t (fun i h1 h2 => by omega)] at h
    exact br_t (nI_le (by omega) (by omega)) (br_f cd_10 h)
  | succ d ih =>
    intro j hj h
    have hj31 : j < 2 ^ 31 := by omega
    have vin : vp_in (nI j) 2048 := vp_in_nI (by omega) (by decide)
    refine br_f (nI_ge (by omega) (by omega)) (br_f cd_10 ⟨vin, cd_xin (w j) a (cd_rd hj31) rfl (by omega) ⟨vin, cd_xin (w j) b (cd_rd hj31) rfl (by omega) (cd_bre (fun q => nm_r (nI_1 j) (ih (j + 1) (by omega) ?_)) (fun q => nm_r (nI_1 j) (cd_alk0 hf ?_ d (j + 1) (by omega))))⟩⟩)
    · rw [← cd_i_c (P := ∀ i, j ≤ i → i < fd → (cd_B (w i) a ↔ cd_B (w i) b))]
      · exact h
      · constructor
        · intro z i h1 h2
          exact z i (by omega) h2
        · intro z i h1 h2
          rcases Nat.eq_or_lt_of_le h1 with e | e
          · rw [← e]; exact q
          · exact z i e h2
    · rw [cd_i_f (fun z => q (z j (Nat.le_refl _) (by omega)))] at h
      exact h
theorem cd_sat {post : Int32 → SX → Prop} {s : Nat} (hf : fd ≤ 2048) (hs : s < 2048) (hw : ∀ j, j < fd → w j < 2048) (h : post (cd_i (∃ i, i < fd ∧ w i = s)) (nI n, kn, nI fd, hd, cd_F kd, cd_F lf, cd_F rt, cd_F w, hu)) : ∀ d j x, j + d = fd → x = cd_i (∃ i, i < j ∧ w i = s) → wX_saturated_16 post (nI s) (nI n) kn (nI fd) hd (cd_F kd) (cd_F lf) (cd_F rt) (cd_F w) hu (d + 1) x (nI j) := by
  intro d
  induction d with
  | zero =>
    intro j x hj e
    have e2 : j = fd := by omega
    subst e2
    rw [e]
    exact br_t (nI_le (by omega) (by omega)) h
  | succ d ih =>
    intro j x hj e
    have hj31 : j < 2 ^ 31 := by omega
    have hwj := hw j (by omega)
    refine br_f (nI_ge (by omega) (by omega)) ⟨vp_in_nI (by omega) (by decide), ?_⟩
    rw [cd_rd hj31]
    refine pk_eq (w j) s (fun q => nm_r (nI_1 j) (ih (j + 1) 1 (by omega) ?_)) (fun q => nm_r (nI_1 j) (ih (j + 1) x (by omega) ?_))
    · rw [cd_i_t ⟨j, by omega, q⟩]
    · rw [e]
      apply cd_i_c
      constructor
      · rintro ⟨i, h1, h2⟩
        exact ⟨i, by omega, h2⟩
      · rintro ⟨i, h1, h2⟩
        by_cases e3 : i = j
        · rw [e3] at h2; exact absurd h2 q
        · exact ⟨i, by omega, h2⟩
def cd_Ag (w : Nat → Nat) (s c j : Nat) (r : Int32) : Prop := (r = -4 ∧ ∀ i, i < j → cd_s s (w i) → cd_B (w i) c) ∨ (∃ i, i < j ∧ cd_s s (w i) ∧ ¬ cd_B (w i) c ∧ r = nI (w i) ∧ ∀ k, i < k → k < j → cd_s s (w k) → cd_B (w k) c)
theorem cd_aga {post : Int32 → SX → Prop} {s c : Nat} (hf : fd ≤ 2048) (hs : s < 2 ^ 11) (hc : c < 11) (h : ∀ r, cd_Ag w s c fd r → post r (nI n, kn, nI fd, hd, cd_F kd, cd_F lf, cd_F rt, cd_F w, hu)) : ∀ d j x, j + d = fd → cd_Ag w s c j x → wX_against_28 post (nI c) (nI s) (nI n) kn (nI fd) hd (cd_F kd) (cd_F lf) (cd_F rt) (cd_F w) hu (d + 1) x (nI j) := by
  intro d
  induction d with
  | zero =>
    intro j x hj A
    have e2 : j = fd := by omega
    subst e2
    exact br_t (nI_le (by omega) (by omega)) (h x A)
  | succ d ih =>
    intro j x hj A
    have hj31 : j < 2 ^ 31 := by omega
    have vin : vp_in (nI j) 2048 := vp_in_nI (by omega) (by decide)
    have keep : (cd_s s (w j) → cd_B (w j) c) → cd_Ag w s c (j + 1) x := by
      intro q
      rcases A with ⟨e, a⟩ | ⟨i, h1, h2, h3, h4, h5⟩
      · refine Or.inl ⟨e, fun i hi g => ?_⟩
        by_cases e3 : i = j
        · rw [e3] at g ⊢; exact q g
        · exact a i (by omega) g
      · refine Or.inr ⟨i, by omega, h2, h3, h4, fun k hk1 hk2 g => ?_⟩
        by_cases e3 : k = j
        · rw [e3] at g ⊢; exact q g
        · exact h5 k hk1 (by omega) g
    refine br_f (nI_ge (by omega) (by omega)) ⟨vin, ?_⟩
    rw [cd_rd hj31]
    refine cd_if (cd_sub hs) (fun q => ⟨vin, cd_xin (w j) c rfl rfl (by omega) (cd_br (fun q2 => ⟨vin, nm_e (nm_r (nI_1 j) (ih (j + 1) _ (by omega) ?_))⟩) (fun q2 => nm_r (nI_1 j) (ih (j + 1) x (by omega) (keep (fun _ => q2)))))⟩) (fun q => nm_r (nI_1 j) (ih (j + 1) x (by omega) (keep (fun z => absurd z q))))
    exact Or.inr ⟨j, by omega, q, q2, rfl, fun k h1 h2 => by omega⟩
def cd_Pc (n : Nat) (kd lf rt : Nat → Nat) (s : Nat) : Prop := ∀ c, c < n → cd_C n kd lf rt s c → cd_B s c
theorem cd_fx {r s : Nat} (hr : r < 2 ^ n) (hs : s < 2 ^ n) (h : ∀ c, c < n → (cd_B r c ↔ cd_C n kd lf rt s c)) : r = s ↔ cd_Pc n kd lf rt s := by
  constructor
  · intro e c hc q
    have := (h c hc).mpr q
    rw [e] at this
    exact this
  · intro g
    refine cd_s_as (fun i q => ?_) (fun i q => ?_)
    · have hi := cd_lt.mp hr i q
      exact g i hi ((h i hi).mp q)
    · have hi := cd_lt.mp hs i q
      exact (h i hi).mpr (fun t _ _ st => st i q)
theorem cd_cls {post : Int32 → SX → Prop} (hn : n ≤ 11) (hI : cd_XI n kd lf rt 0 fd w) (h : post (nI (cd_n (cd_Pc n kd lf rt) (2 ^ n))) (nI n, kn, nI fd, hd, cd_F kd, cd_F lf, cd_F rt, cd_F w, hu)) : ∀ d j, j + d = 2 ^ n → wX_closedSets_8 post (nI n) kn (nI fd) hd (cd_F kd) (cd_F lf) (cd_F rt) (cd_F w) hu (d + 1) (nI (cd_n (cd_Pc n kd lf rt) j)) (nI j) := by
  intro d
  have h2n := cd_2n hn
  have h0 := Nat.two_pow_pos n
  induction d with
  | zero =>
    intro j hj
    have e : j = 2 ^ n := by omega
    rw [wX_closedSets_8]
    refine cd_xev hn ?_
    refine br_t (nI_lt (by omega) (by omega)) ?_
    rw [e]
    exact h
  | succ d ih =>
    intro j hj
    rw [wX_closedSets_8]
    refine cd_xev hn ?_
    refine br_f (nI_nlt (by omega) (by omega)) (cd_closure hn (by omega) hI (fun r hr br => ?_))
    refine pk_eq r j (fun q => nm_r (nI_1 _) (nm_r (nI_1 j) ?_)) (fun q => nm_r (nI_1 j) ?_)
    · rw [← cd_n_t ((cd_fx hr (by omega) br).mp q)]
      exact ih (j + 1) (by omega)
    · rw [← cd_n_f (fun z => q ((cd_fx hr (by omega) br).mpr z))]
      exact ih (j + 1) (by omega)
theorem cd_szo {post : Int32 → Prop} {s : Nat} (hn : n ≤ 11) (h : post (nI (cd_p s n))) : ∀ d i, i + d = n → wX_sizeOf_4 post (nI s) (nI n) kn (nI fd) hd (cd_F kd) (cd_F lf) (cd_F rt) (cd_F w) hu (d + 1) (nI (cd_p s i)) (nI i) := by
  intro d
  induction d with
  | zero =>
    intro i hi
    have e : i = n := by omega
    subst e
    exact br_t (nI_le (by omega) (by omega)) h
  | succ d ih =>
    intro i hi
    refine br_f (nI_ge (by omega) (by omega)) (nm_r (e' := nI (cd_p s (i + 1))) ?_ (nm_r (nI_1 i) (ih (i + 1) (by omega))))
    rw [cd_bitN s (by omega), cd_i_B, nI_add]
    rfl
theorem cd_sizeOf {post : Int32 → Prop} {s : Nat} (hn : n ≤ 11) (h : post (nI (cd_p s n))) : wpX_sizeOf post (nI n, kn, nI fd, hd, cd_F kd, cd_F lf, cd_F rt, cd_F w, hu) (nI s) := by
  unfold wpX_sizeOf
  dsimp only
  exact ⟨n + 1, cd_szo hn h n 0 (by omega)⟩
end
def cd_GI (w : Nat → Nat) (s c j h : Nat) (hu : Nat → Int32) : Prop := h ≤ j ∧ (∀ i, i < h → ∃ k, k < j ∧ ¬ cd_B (w k) c ∧ hu i = nI (cd_d s (w k))) ∧ (∀ k, k < j → ¬ cd_B (w k) c → ∃ i, i < h ∧ hu i = nI (cd_d s (w k)))
section
variable {n fd : Nat} {kn : Int32} {kd lf rt w : Nat → Nat} {hu : Nat → Int32}
theorem cd_gat {post : Int32 → SX → Prop} {s c : Nat} (hf : fd ≤ 2048) (hs : s < 2 ^ 11) (hc : c < 11) (K : ∀ h hu, cd_GI w s c fd h hu → post (cd_i (∀ k, k < fd → ¬ cd_B (w k) c → ¬ cd_s s (w k))) (nI n, kn, nI fd, nI h, cd_F kd, cd_F lf, cd_F rt, cd_F w, hu)) : ∀ d j h hu, j + d = fd → cd_GI w s c j h hu → wX_gather_10 post (nI s) (nI c) (nI n) kn (nI fd) (d + 1) (cd_i (∀ k, k < j → ¬ cd_B (w k) c → ¬ cd_s s (w k))) (nI j) (nI h) (cd_F kd) (cd_F lf) (cd_F rt) (cd_F w) hu := by
  intro d
  induction d with
  | zero =>
    intro j h hu hj G
    have e : j = fd := by omega
    subst e
    exact br_t (nI_le (by omega) (by omega)) ⟨cd_i_n _, K h hu G⟩
  | succ d ih =>
    intro j h hu hj G
    have hj31 : j < 2 ^ 31 := by omega
    have hh := G.1
    have hh31 : h < 2 ^ 31 := by omega
    have vin : vp_in (nI j) 2048 := vp_in_nI (by omega) (by decide)
    have vih : vp_in (nI h) 2048 := vp_in_nI (by omega) (by decide)
    have hd11 : cd_d s (w j) < 2 ^ 11 := cd_d_lt hs
    have hd31 : cd_d s (w j) < 2 ^ 31 := Nat.lt_trans hd11 (by decide)
    have e1 : vp_nar .short ((nI s &&& (nI (w j) ^^^ (-1))).toInt16.toInt32) = nI (cd_d s (w j)) := by
      rw [cd_dN]
      exact cd_ns _ hd11
    refine br_f (nI_ge (by omega) (by omega)) ⟨vin, ?_⟩
    rw [cd_rd hj31]
    refine cd_xin (w j) c rfl rfl (by omega) (cd_br (fun q => ⟨vin, vih, ?_⟩) (fun q => nm_r (nI_1 j) ?_))
    · have G2 : cd_GI w s c (j + 1) (h + 1) (upd hu h (nI (cd_d s (w j)))) := by
        refine ⟨by omega, fun i hi => ?_, fun k hk g => ?_⟩
        · by_cases e : i = h
          · exact ⟨j, by omega, q, by rw [e, pk_us]⟩
          · obtain ⟨k, g1, g2, g3⟩ := G.2.1 i (by omega)
            exact ⟨k, by omega, g2, by rw [pk_un e]; exact g3⟩
        · by_cases e : k = j
          · exact ⟨h, by omega, by rw [e, pk_us]⟩
          · obtain ⟨i, g1, g2⟩ := G.2.2 k (by omega) g
            exact ⟨i, by omega, by rw [pk_un (by omega)]; exact g2⟩
      have fin0 : ¬ (∀ k, k < j + 1 → ¬ cd_B (w k) c → ¬ cd_s s (w k)) → wX_gather_10 post (nI s) (nI c) (nI n) kn (nI fd) (d + 1) 0 (nI (j + 1)) (nI (h + 1)) (cd_F kd) (cd_F lf) (cd_F rt) (cd_F w) (upd hu h (nI (cd_d s (w j)))) := by
        intro z
        have := ih (j + 1) (h + 1) _ (by omega) G2
        rw [cd_i_f z] at this
        exact this
      have fin1 : (∀ k, k < j + 1 → ¬ cd_B (w k) c → ¬ cd_s s (w k)) → wX_gather_10 post (nI s) (nI c) (nI n) kn (nI fd) (d + 1) 1 (nI (j + 1)) (nI (h + 1)) (cd_F kd) (cd_F lf) (cd_F rt) (cd_F w) (upd hu h (nI (cd_d s (w j)))) := by
        intro z
        have := ih (j + 1) (h + 1) _ (by omega) G2
        rw [cd_i_t z] at this
        exact this
      refine nm_r (e' := upd hu h (nI (cd_d s (w j)))) (by rw [e1, nI_clamp hh31]) ?_
      refine cd_br (fun z => nm_r (nI_1 h) (nm_r (nI_1 j) (fin0 (fun y => z (fun k hk => y k (by omega)))))) (fun z => ⟨vih, ?_⟩)
      rw [nI_clamp hh31, pk_us]
      refine pk_eq (cd_d s (w j)) 0 (fun z2 => nm_r (nI_1 h) (nm_r (nI_1 j) (fin0 (fun y => y j (by omega) q (cd_d0.mp z2))))) (fun z2 => nm_r (nI_1 h) (nm_r (nI_1 j) (fin1 (fun k hk g => ?_))))
      by_cases e : k = j
      · rw [e]; exact fun y => z2 (cd_d0.mpr y)
      · exact z k (by omega) g
    · rw [cd_i_c (Q := ∀ k, k < j + 1 → ¬ cd_B (w k) c → ¬ cd_s s (w k))]
      · refine ih (j + 1) h hu (by omega) ⟨by omega, fun i hi => ?_, fun k hk g => ?_⟩
        · obtain ⟨k, g1, g2, g3⟩ := G.2.1 i hi
          exact ⟨k, by omega, g2, g3⟩
        · by_cases e : k = j
          · rw [e] at g; exact absurd q g
          · exact G.2.2 k (by omega) g
      · constructor
        · intro z k hk g
          by_cases e : k = j
          · rw [e] at g; exact absurd q g
          · exact z k (by omega) g
        · intro z k hk g
          exact z k (by omega) g
theorem cd_gather {post : Int32 → SX → Prop} {s c : Nat} {hd : Int32} (hf : fd ≤ 2048) (hs : s < 2 ^ 11) (hc : c < 11) (K : ∀ h hu, cd_GI w s c fd h hu → post (cd_i (∀ k, k < fd → ¬ cd_B (w k) c → ¬ cd_s s (w k))) (nI n, kn, nI fd, nI h, cd_F kd, cd_F lf, cd_F rt, cd_F w, hu)) : wpX_gather post (nI n, kn, nI fd, hd, cd_F kd, cd_F lf, cd_F rt, cd_F w, hu) (nI s) (nI c) := by
  unfold wpX_gather
  dsimp only
  refine ⟨fd + 1, ?_⟩
  have := cd_gat (n := n) (kn := kn) (kd := kd) (lf := lf) (rt := rt) hf hs hc K fd 0 0 hu (by omega) ⟨Nat.le_refl _, fun i hi => by omega, fun k hk => by omega⟩
  rw [cd_i_t (fun k hk => by omega)] at this
  exact this
theorem cd_mee0 {post : Int32 → Prop} {p : Nat} {hd : Int32} (h : post 0) (d i : Nat) : wX_meetsAll_4 post (nI p) (nI n) kn (nI fd) hd (cd_F kd) (cd_F lf) (cd_F rt) (cd_F w) hu (d + 1) 0 (nI i) := by
  by_cases hc : hd ≤ nI i
  · exact br_t hc ⟨rfl, h⟩
  · exact br_f hc (br_t rfl ⟨rfl, h⟩)
theorem cd_mee {post : Int32 → Prop} {p h : Nat} (hh : h ≤ 2048) : ∀ d i, i + d = h → post (cd_i (∀ j, i ≤ j → j < h → ¬ (hu j &&& nI p) = 0)) → wX_meetsAll_4 post (nI p) (nI n) kn (nI fd) (nI h) (cd_F kd) (cd_F lf) (cd_F rt) (cd_F w) hu (d + 1) 1 (nI i) := by
  intro d
  induction d with
  | zero =>
    intro i hi H
    rw [cd_i_t (fun j h1 h2 => by omega)] at H
    exact br_t (nI_le (by omega) (by omega)) ⟨rfl, H⟩
  | succ d ih =>
    intro i hi H
    have hi31 : i < 2 ^ 31 := by omega
    refine br_f (nI_ge (by omega) (by omega)) (br_f cd_10 ⟨vp_in_nI (by omega) (by decide), ?_⟩)
    rw [nI_clamp hi31]
    refine br_c (fun q => nm_r (nI_1 i) ?_) (fun q => nm_r (nI_1 i) (ih (i + 1) (by omega) ?_))
    · rw [cd_i_f (fun z => z i (Nat.le_refl _) (by omega) q)] at H
      exact cd_mee0 H d (i + 1)
    · rw [← cd_i_c (P := ∀ j, i ≤ j → j < h → ¬ (hu j &&& nI p) = 0)]
      · exact H
      · constructor
        · intro z j h1 h2
          exact z j (by omega) h2
        · intro z j h1 h2
          rcases Nat.eq_or_lt_of_le h1 with e | e
          · rw [← e]; exact q
          · exact z j e h2
theorem cd_GIC {s c p h : Nat} (hI : cd_XI n kd lf rt 0 fd w) (hs : s < 2 ^ 11) (hp : cd_s p s) (G : cd_GI w s c fd h hu) : (∀ j, j < h → ¬ (hu j &&& nI p) = 0) ↔ cd_C n kd lf rt p c := by
  have key : ∀ k, (nI (cd_d s (w k)) &&& nI p) = 0 ↔ cd_s p (w k) := by
    intro k
    have hlt : cd_d s (w k) &&& p < 2 ^ 11 := cd_lt.mpr (fun i q => cd_lt.mp (cd_d_lt hs) i (cd_and.mp q).1)
    rw [cd_andN, ← nI_0, nI_eq (Nat.lt_trans hlt (by decide)) (by decide)]
    constructor
    · intro e i q
      apply Classical.byContradiction
      intro nb
      have : cd_B (cd_d s (w k) &&& p) i := cd_and.mpr ⟨cd_dB.mpr ⟨hp i q, nb⟩, q⟩
      rw [e] at this
      exact cd_0 this
    · intro g
      refine cd_s_as (fun i q => ?_) (cd_s_0 _)
      obtain ⟨q1, q2⟩ := cd_and.mp q
      exact absurd (g i q2) (cd_dB.mp q1).2
  rw [cd_CX hI]
  constructor
  · intro z k hk g
    apply Classical.byContradiction
    intro nb
    obtain ⟨i, hi, e⟩ := G.2.2 k hk nb
    apply z i hi
    rw [e]
    exact (key k).mpr g
  · intro z i hi q
    obtain ⟨k, hk, nb, e⟩ := G.2.1 i hi
    rw [e] at q
    exact nb (z k hk ((key k).mp q))
theorem cd_meets {post : Int32 → Prop} {s c p h : Nat} (hI : cd_XI n kd lf rt 0 fd w) (hf : fd ≤ 2048) (hs : s < 2 ^ 11) (hp : cd_s p s) (G : cd_GI w s c fd h hu) (H : post (cd_i (cd_C n kd lf rt p c))) : wpX_meetsAll post (nI n, kn, nI fd, nI h, cd_F kd, cd_F lf, cd_F rt, cd_F w, hu) (nI p) := by
  unfold wpX_meetsAll
  dsimp only
  have hh := G.1
  refine ⟨h + 1, cd_mee (by omega) h 0 (by omega) ?_⟩
  rw [← cd_i_c (P := cd_C n kd lf rt p c)]
  · exact H
  · rw [← cd_GIC hI hs hp G]
    exact ⟨fun z j _ h2 => z j h2, fun z j h2 => z j (Nat.zero_le _) h2⟩
end
def cd_ER (n : Nat) (kd lf rt : Nat → Nat) (A c : Nat) (r : Int32) : Prop := (r = -4 ∧ ¬ cd_C n kd lf rt A c) ∨ ∃ q, cd_s q A ∧ cd_C n kd lf rt q c ∧ r = nI (cd_p q n) ∧ ∀ z, cd_s z A → cd_C n kd lf rt z c → cd_p q n ≤ cd_p z n
section
variable {n fd : Nat} {kn : Int32} {kd lf rt w : Nat → Nat} {hu : Nat → Int32}
theorem cd_eno {post : Int32 → SX → Prop} {A c h : Nat} (hn : n ≤ 11) (hI : cd_XI n kd lf rt 0 fd w) (hA : A < 2 ^ n) (G : cd_GI w A c fd h hu) (K : ∀ r, cd_ER n kd lf rt A c r → post r (nI n, kn, nI fd, nI h, cd_F kd, cd_F lf, cd_F rt, cd_F w, hu)) : ∀ d p b, p ≤ d → cd_s p A → (∃ q, cd_s q A ∧ cd_C n kd lf rt q c ∧ b = cd_p q n) → (∀ q, cd_s q A → cd_C n kd lf rt q c → p < q → b ≤ cd_p q n) → wX_enough_47 post (nI A) (nI n) kn (nI fd) (nI h) (cd_F kd) (cd_F lf) (cd_F rt) (cd_F w) hu (d + 1) (nI b) (nI p) := by
  intro d
  have h2n := cd_2n hn
  have hf : fd ≤ 2048 := Nat.le_trans (cd_XI_fd hI) h2n
  have hA11 : A < 2 ^ 11 := Nat.lt_of_lt_of_le hA h2n
  have hh := G.1
  have hb : ∀ b, (∃ q, cd_s q A ∧ cd_C n kd lf rt q c ∧ b = cd_p q n) → b < 2 ^ 31 := by
    rintro b ⟨q, _, _, e⟩
    have := cd_p_le q n
    omega
  have E0 : ∀ b, (∃ q, cd_s q A ∧ cd_C n kd lf rt q c ∧ b = cd_p q n) → (∀ q, cd_s q A → cd_C n kd lf rt q c → 0 < q → b ≤ cd_p q n) → (h = 0 → cd_ER n kd lf rt A c 0) ∧ (h ≠ 0 → cd_ER n kd lf rt A c (nI b)) := by
    rintro b ⟨q, q1, q2, q3⟩ g
    constructor
    · intro e
      refine Or.inr ⟨0, cd_s_0 _, ?_, ?_, fun z _ _ => ?_⟩
      · rw [cd_CX hI]
        intro i hi _
        apply Classical.byContradiction
        intro nb
        obtain ⟨j, hj, _⟩ := G.2.2 i hi nb
        omega
      · rw [cd_p_0]; rfl
      · rw [cd_p_0]; exact Nat.zero_le _
    · intro e
      refine Or.inr ⟨q, q1, q2, by rw [q3], fun z z1 z2 => ?_⟩
      rcases Nat.eq_zero_or_pos z with y | y
      · exfalso
        rw [y] at z2
        obtain ⟨k, hk, nb, _⟩ := G.2.1 0 (by omega)
        exact nb ((cd_CX hI).mp z2 k hk (cd_s_0 _))
      · have := g z z1 z2 y
        omega
  have B0 : ∀ d b, (∃ q, cd_s q A ∧ cd_C n kd lf rt q c ∧ b = cd_p q n) → (∀ q, cd_s q A → cd_C n kd lf rt q c → 0 < q → b ≤ cd_p q n) → wX_enough_47 post (nI A) (nI n) kn (nI fd) (nI h) (cd_F kd) (cd_F lf) (cd_F rt) (cd_F w) hu (d + 1) (nI b) (nI 0) := by
    intro d b h1 h2
    refine br_t (by decide) (pk_eq h 0 (fun e => K _ ((E0 b h1 h2).1 e)) (fun e => K _ ((E0 b h1 h2).2 e)))
  induction d with
  | zero =>
    intro p b hp hpA h1 h2
    have e : p = 0 := by omega
    subst e
    exact B0 0 b h1 h2
  | succ d ih =>
    intro p b hp hpA h1 h2
    rcases Nat.eq_zero_or_pos p with e | e
    · subst e
      exact B0 (d + 1) b h1 h2
    · have hp2 : p ≤ A := cd_s_le hpA
      have hpn : p < 2 ^ n := by omega
      have hb31 := hb b h1
      have hcp := cd_p_le p n
      have e1 : (nI p - 1) &&& nI A = nI ((p - 1) &&& A) := by
        have e2 : nI p - 1 = nI (p - 1) := pk_sub (b := 1) e
        rw [e2, cd_andN]
      have step : ∀ b, (∃ q, cd_s q A ∧ cd_C n kd lf rt q c ∧ b = cd_p q n) → (∀ q, cd_s q A → cd_C n kd lf rt q c → p ≤ q → b ≤ cd_p q n) → wX_enough_47 post (nI A) (nI n) kn (nI fd) (nI h) (cd_F kd) (cd_F lf) (cd_F rt) (cd_F w) hu (d + 1) (nI b) (nI ((p - 1) &&& A)) := by
        intro b g1 g2
        refine ih _ b ?_ (fun i q => (cd_and.mp q).2) g1 (fun q q1 q2 q3 => g2 q q1 q2 ?_)
        · have : (p - 1) &&& A ≤ p - 1 := Nat.and_le_left
          omega
        · rcases Nat.lt_or_ge q p with l | l
          · have := cd_sm n A p q hpn hpA q1 l
            omega
          · exact l
      refine br_f (fun z => ?_) (cd_sizeOf hn (pk_le b (cd_p p n) (fun q => nm_r e1 (step b h1 (fun z z1 z2 z3 => ?_))) (fun q => cd_meets hI hf hA11 hpA G (cd_br (fun y => nm_r e1 (step b h1 (fun z z1 z2 z3 => ?_))) (fun y => nm_r e1 (step (cd_p p n) ⟨p, hpA, y, rfl⟩ (fun z z1 z2 z3 => ?_)))))))
      · have := (nI_leI (a := p) (b := 0) (by omega) (by omega)).mp z
        omega
      · rcases Nat.eq_or_lt_of_le z3 with y | y
        · rw [← y]; exact q
        · exact h2 z z1 z2 y
      · rcases Nat.eq_or_lt_of_le z3 with x | x
        · rw [← x] at z2; exact absurd z2 y
        · exact h2 z z1 z2 x
      · rcases Nat.eq_or_lt_of_le z3 with x | x
        · rw [← x]; exact Nat.le_refl _
        · have := h2 z z1 z2 x
          omega
end
end
section
def cd_AR (n : Nat) (kd lf rt : Nat → Nat) (A c : Nat) (r : Int32) : Prop := (r = -4 ∧ ∀ t, t < 2 ^ n → cd_w n kd lf rt t → cd_s A t → cd_B t c) ∨ ∃ t, t < 2 ^ n ∧ cd_w n kd lf rt t ∧ cd_s A t ∧ ¬ cd_B t c ∧ r = nI t ∧ ∀ z, z < t → cd_w n kd lf rt z → cd_s A z → cd_B z c
section
variable {n : Nat} {kd lf rt w : Nat → Nat}
theorem cd_AgR {A c fd : Nat} {r : Int32} (hI : cd_XI n kd lf rt 0 fd w) (h : cd_Ag w A c fd r) : cd_AR n kd lf rt A c r := by
  rcases h with ⟨e, a⟩ | ⟨i, h1, h2, h3, h4, h5⟩
  · refine Or.inl ⟨e, fun t ht tw st => ?_⟩
    obtain ⟨j, hj, e2⟩ := hI.2.1 t (Nat.zero_le _) ht tw
    rw [← e2] at st ⊢
    exact a j hj st
  · obtain ⟨_, g2, g3⟩ := hI.1 i h1
    refine Or.inr ⟨w i, g2, g3, h2, h3, h4, fun z hz zw sz => ?_⟩
    obtain ⟨j, hj, e2⟩ := hI.2.1 z (Nat.zero_le _) (by omega) zw
    rw [← e2] at sz hz ⊢
    rcases Nat.lt_trichotomy i j with l | l | l
    · exact h5 j l hj sz
    · rw [l] at hz; omega
    · have := hI.2.2.1 j i l h1
      omega
theorem cd_AR_u {A c : Nat} {r x : Int32} (hn : n ≤ 11) (h : cd_AR n kd lf rt A c r) (g : cd_AR n kd lf rt A c x) : r = x := by
  rcases h with ⟨e, a⟩ | ⟨t, h1, h2, h3, h4, h5, h6⟩ <;> rcases g with ⟨e2, a2⟩ | ⟨u, g1, g2, g3, g4, g5, g6⟩
  · rw [e, e2]
  · exact absurd (a u g1 g2 g3) g4
  · exact absurd (a2 t h1 h2 h3) h4
  · rw [h5, g5]
    rcases Nat.lt_trichotomy t u with l | l | l
    · exact absurd (g6 t l h2 h3) h4
    · rw [l]
    · exact absurd (h6 u l g2 g3) g4
theorem cd_ER_u {A c : Nat} {r x : Int32} (h : cd_ER n kd lf rt A c r) (g : cd_ER n kd lf rt A c x) : r = x := by
  rcases h with ⟨e, a⟩ | ⟨t, h1, h2, h3, h4⟩ <;> rcases g with ⟨e2, a2⟩ | ⟨u, g1, g2, g3, g4⟩
  · rw [e, e2]
  · exact absurd (cd_C_mono g1 g2) a
  · exact absurd (cd_C_mono h1 h2) a2
  · rw [h3, g3, Nat.le_antisymm (h4 u g1 g2) (g4 t h1 h2)]
end
section
variable {n : Nat} {yn : Int32} {kd lf rt f : Nat → Nat} {tr : Nat → Int32}
theorem cd_y43 {post : Int32 → Prop} {J14 : Int32 → Prop} {s i : Nat} (wf : cd_W n kd lf rt) (hi : i < n) (k4 : cd_B s i → kd i ≠ 4) (h1 : (cd_B s i → kd i ≠ 4 ∧ (kd i = 1 → cd_B s (lf i) ∨ cd_B s (rt i))) → J14 (nI (i + 1))) (h0 : ¬ (cd_B s i → kd i ≠ 4 ∧ (kd i = 1 → cd_B s (lf i) ∨ cd_B s (rt i))) → post 0) : wY_isWorld_43 post J14 (nI s) (nI i) (nI n) yn (cd_F kd) (cd_F lf) (cd_F rt) (cd_F f) tr := by
  have hn := wf.1
  have hw := wf.2 i hi
  have hi31 : i < 2 ^ 31 := by omega
  have vin : vp_in (nI i) 11 := vp_in_nI (by omega) (by decide)
  unfold wY_isWorld_43
  refine cd_yh s i rfl rfl (by omega) (cd_br (fun q => nm_r (nI_1 i) (h1 (fun z => absurd z q))) (fun q => ⟨vin, cd_ke 1 hi31 hw.1 (by decide) (fun k => ⟨vin, cd_yh s (lf i) rfl (cd_rd hi31) (by omega) (cd_br (fun qa => ⟨vin, cd_yh s (rt i) rfl (cd_rd hi31) (by omega) (cd_br (fun qb => h0 (fun z => ?_)) (fun qb => nm_r (nI_1 i) (h1 (fun z => ⟨k4 z, fun _ => Or.inr qb⟩))))⟩) (fun qa => nm_r (nI_1 i) (h1 (fun z => ⟨k4 z, fun _ => Or.inl qa⟩))))⟩) (fun k => nm_r (nI_1 i) (h1 (fun z => ⟨k4 z, fun y => absurd y k⟩)))⟩))
  exact ((z q).2 k).elim qa qb
theorem cd_y14 {post : Int32 → Prop} {s : Nat} (wf : cd_W n kd lf rt) : ∀ d i, i + d = n → post (cd_i (∀ j, i ≤ j → j < n → cd_B s j → kd j ≠ 4 ∧ (kd j = 1 → cd_B s (lf j) ∨ cd_B s (rt j)))) → wY_isWorld_14 post (nI s) (nI n) yn (cd_F kd) (cd_F lf) (cd_F rt) (cd_F f) tr (d + 1) (nI i) := by
  intro d
  have hn := wf.1
  induction d with
  | zero =>
    intro i hi h
    rw [cd_i_t (fun j a b => by omega)] at h
    exact br_t (nI_le (by omega) (by omega)) h
  | succ d ih =>
    intro i hi h
    have hw := wf.2 i (by omega)
    have hi31 : i < 2 ^ 31 := by omega
    have vin : vp_in (nI i) 11 := vp_in_nI (by omega) (by decide)
    have h1 : (cd_B s i → kd i ≠ 4 ∧ (kd i = 1 → cd_B s (lf i) ∨ cd_B s (rt i))) → wY_isWorld_14 post (nI s) (nI n) yn (cd_F kd) (cd_F lf) (cd_F rt) (cd_F f) tr (d + 1) (nI (i + 1)) := by
      intro q
      refine ih (i + 1) (by omega) ?_
      rw [← cd_i_c (P := ∀ j, i ≤ j → j < n → cd_B s j → kd j ≠ 4 ∧ (kd j = 1 → cd_B s (lf j) ∨ cd_B s (rt j)))]
      · exact h
      · constructor
        · intro z j a b
          exact z j (by omega) b
        · intro z j a b
          rcases Nat.eq_or_lt_of_le a with e | e
          · rw [← e]; exact q
          · exact z j e b
    have h0 : ¬ (cd_B s i → kd i ≠ 4 ∧ (kd i = 1 → cd_B s (lf i) ∨ cd_B s (rt i))) → post 0 := by
      intro q
      rw [cd_i_f (fun z => q (z i (Nat.le_refl _) (by omega)))] at h
      exact h
    refine br_f (nI_ge (by omega) (by omega)) (cd_yh s i rfl rfl (by omega) (cd_br (fun q => cd_y43 wf (by omega) (fun z => absurd z q) h1 h0) (fun q => ⟨vin, cd_ke 4 hi31 hw.1 (by decide) (fun k => h0 (fun z => (z q).1 k)) (fun k => cd_y43 wf (by omega) (fun _ => k) h1 h0)⟩)))
theorem cd_yisw {post : Int32 → Prop} {s : Nat} (wf : cd_W n kd lf rt) (hs : s < 2 ^ n) (hY : cd_Yf n kd lf rt f s) (h : post (cd_i (cd_w n kd lf rt s))) : wpY_isWorld post (nI n, yn, cd_F kd, cd_F lf, cd_F rt, cd_F f, tr) (nI s) := by
  have h2n := cd_2n wf.1
  have hs31 : s < 2 ^ 31 := by omega
  unfold wpY_isWorld
  dsimp only
  refine ⟨vp_in_nI (by omega) (by decide), ?_⟩
  rw [cd_rd hs31]
  have hfs := hY.1
  rw [cd_i_c (cd_yw wf hs)] at h
  refine pk_eq (f s) s (fun q => ⟨n + 1, cd_y14 wf n 0 (by omega) ?_⟩) (fun q => ?_)
  · rw [← cd_i_c (P := (∀ c, c < n → cd_C n kd lf rt s c → cd_B s c) ∧ ∀ i, i < n → cd_B s i → kd i ≠ 4 ∧ (kd i = 1 → cd_B s (lf i) ∨ cd_B s (rt i)))]
    · exact h
    · exact ⟨fun z j _ hj => z.2 j hj, fun z => ⟨(cd_fx hY.1 hs hY.2).mp q, fun j hj => z j (Nat.zero_le _) hj⟩⟩
  · rw [cd_i_f (fun z => q ((cd_fx hY.1 hs hY.2).mpr z.1))] at h
    exact h
theorem cd_ywo {post : Int32 → SY → Prop} (wf : cd_W n kd lf rt) (hY : ∀ s, s < 2 ^ n → cd_Yf n kd lf rt f s) (h : post (nI (cd_n (cd_w n kd lf rt) (2 ^ n))) (nI n, yn, cd_F kd, cd_F lf, cd_F rt, cd_F f, tr)) : ∀ d j, j + d = 2 ^ n → wY_worlds_8 post (nI n) yn (cd_F kd) (cd_F lf) (cd_F rt) (cd_F f) tr (d + 1) (nI (cd_n (cd_w n kd lf rt) j)) (nI j) := by
  intro d
  have hn := wf.1
  have h2n := cd_2n hn
  induction d with
  | zero =>
    intro j hj
    have e : j = 2 ^ n := by omega
    refine pk_le (2 ^ n) j (fun _ => ?_) (fun q => by omega) (hx := cd_pw n (by omega))
    rw [e]
    exact h
  | succ d ih =>
    intro j hj
    refine pk_le (2 ^ n) j (fun q => by omega) (fun q => cd_yisw wf (by omega) (hY j (by omega)) (cd_br (fun q2 => nm_r (nI_1 j) ?_) (fun q2 => nm_r (nI_1 _) (nm_r (nI_1 j) ?_)))) (hx := cd_pw n (by omega))
    · rw [← cd_n_f q2]
      exact ih (j + 1) (by omega)
    · rw [← cd_n_t q2]
      exact ih (j + 1) (by omega)
theorem cd_ycl {post : Int32 → SY → Prop} (wf : cd_W n kd lf rt) (hY : ∀ s, s < 2 ^ n → cd_Yf n kd lf rt f s) (h : post (nI (cd_n (cd_Pc n kd lf rt) (2 ^ n))) (nI n, yn, cd_F kd, cd_F lf, cd_F rt, cd_F f, tr)) : ∀ d j, j + d = 2 ^ n → wY_closedSets_8 post (nI n) yn (cd_F kd) (cd_F lf) (cd_F rt) (cd_F f) tr (d + 1) (nI (cd_n (cd_Pc n kd lf rt) j)) (nI j) := by
  intro d
  have hn := wf.1
  have h2n := cd_2n hn
  induction d with
  | zero =>
    intro j hj
    have e : j = 2 ^ n := by omega
    refine pk_le (2 ^ n) j (fun _ => ?_) (fun q => by omega) (hx := cd_pw n (by omega))
    rw [e]
    exact h
  | succ d ih =>
    intro j hj
    have hj31 : j < 2 ^ 31 := by omega
    have hYj := hY j (by omega)
    have hfj := hYj.1
    refine pk_le (2 ^ n) j (fun q => by omega) (fun q => ⟨vp_in_nI (by omega) (by decide), ?_⟩) (hx := cd_pw n (by omega))
    rw [cd_rd hj31]
    refine pk_eq (f j) j (fun q2 => nm_r (nI_1 _) (nm_r (nI_1 j) ?_)) (fun q2 => nm_r (nI_1 j) ?_)
    · rw [← cd_n_t ((cd_fx hYj.1 (by omega) hYj.2).mp q2)]
      exact ih (j + 1) (by omega)
    · rw [← cd_n_f (fun z => q2 ((cd_fx hYj.1 (by omega) hYj.2).mpr z))]
      exact ih (j + 1) (by omega)
theorem cd_yag {post : Int32 → SY → Prop} {A c : Nat} (wf : cd_W n kd lf rt) (hA : A < 2 ^ n) (hc : c < n) (hY : ∀ s, s < 2 ^ n → cd_Yf n kd lf rt f s) (h : ∀ r, cd_AR n kd lf rt A c r → post r (nI n, yn, cd_F kd, cd_F lf, cd_F rt, cd_F f, tr)) : ∀ d t, t + d = 2 ^ n → (∀ z, z < t → cd_w n kd lf rt z → cd_s A z → cd_B z c) → wY_against_19 post (nI c) (nI A) (nI n) yn (cd_F kd) (cd_F lf) (cd_F rt) (cd_F f) tr (d + 1) (nI t) := by
  intro d
  have hn := wf.1
  have h2n := cd_2n hn
  induction d with
  | zero =>
    intro t ht H
    exact pk_le (2 ^ n) t (fun _ => h _ (Or.inl ⟨rfl, fun z h1 h2 h3 => H z (by omega) h2 h3⟩)) (fun q => by omega) (hx := cd_pw n (by omega))
  | succ d ih =>
    intro t ht H
    have nx : (cd_w n kd lf rt t → cd_s A t → cd_B t c) → wY_against_19 post (nI c) (nI A) (nI n) yn (cd_F kd) (cd_F lf) (cd_F rt) (cd_F f) tr (d + 1) (nI (t + 1)) := by
      intro q
      refine ih (t + 1) (by omega) (fun z h1 h2 h3 => ?_)
      by_cases e : z = t
      · rw [e] at h2 h3 ⊢; exact q h2 h3
      · exact H z (by omega) h2 h3
    refine pk_le (2 ^ n) t (fun q => by omega) (fun _ => cd_if (cd_sub (by omega)) (fun q => cd_yh t c rfl rfl (by omega) (cd_br (fun q2 => cd_yisw wf (by omega) (hY t (by omega)) (cd_br (fun q3 => nm_r (nI_1 t) (nx (fun z => absurd z q3))) (fun q3 => h _ (Or.inr ⟨t, by omega, q3, q, q2, rfl, H⟩)))) (fun q2 => nm_r (nI_1 t) (nx (fun _ _ => q2))))) (fun q => nm_r (nI_1 t) (nx (fun _ z => absurd z q)))) (hx := cd_pw n (by omega))
theorem cd_cou {post : Int32 → Prop} {s : Nat} (hn : n ≤ 11) (h : post (nI (cd_p s n))) : ∀ d i, i + d = n → wY_count_4 post (nI s) (nI n) yn (cd_F kd) (cd_F lf) (cd_F rt) (cd_F f) tr (d + 1) (nI (cd_p s i)) (nI i) := by
  intro d
  induction d with
  | zero =>
    intro i hi
    have e : i = n := by omega
    subst e
    exact br_t (nI_le (by omega) (by omega)) h
  | succ d ih =>
    intro i hi
    refine br_f (nI_ge (by omega) (by omega)) (nm_r (e' := nI (cd_p s (i + 1))) ?_ (nm_r (nI_1 i) (ih (i + 1) (by omega))))
    rw [cd_bitN s (by omega), cd_i_B, nI_add]
    rfl
theorem cd_count {post : Int32 → Prop} {s : Nat} (hn : n ≤ 11) (h : post (nI (cd_p s n))) : wpY_count post (nI n, yn, cd_F kd, cd_F lf, cd_F rt, cd_F f, tr) (nI s) := by
  unfold wpY_count
  dsimp only
  exact ⟨n + 1, cd_cou hn h n 0 (by omega)⟩
end
def cd_YE (n : Nat) (kd lf rt : Nat → Nat) (A c p : Nat) (x : Int32) : Prop := (x = -4 ∧ ∀ q, q < p → cd_s q A → ¬ cd_C n kd lf rt q c) ∨ ∃ q, cd_s q A ∧ cd_C n kd lf rt q c ∧ x = nI (cd_p q n) ∧ ∀ z, z < p → cd_s z A → cd_C n kd lf rt z c → cd_p q n ≤ cd_p z n
section
variable {n : Nat} {yn : Int32} {kd lf rt f : Nat → Nat} {tr : Nat → Int32}
theorem cd_yen {post : Int32 → SY → Prop} {A c : Nat} (hn : n ≤ 11) (hA : A < 2 ^ n) (hc : c < n) (hY : ∀ s, s < 2 ^ n → cd_Yf n kd lf rt f s) (h : ∀ r, cd_ER n kd lf rt A c r → post r (nI n, yn, cd_F kd, cd_F lf, cd_F rt, cd_F f, tr)) : ∀ d p x, p + d = A + 1 → cd_YE n kd lf rt A c p x → wY_enough_23 post (nI c) (nI A) (nI n) yn (cd_F kd) (cd_F lf) (cd_F rt) (cd_F f) tr (d + 1) x (nI p) := by
  intro d
  have h2n := cd_2n hn
  induction d with
  | zero =>
    intro p x hp E
    refine br_t (nI_lt (by omega) (by omega)) (h x ?_)
    rcases E with ⟨e, a⟩ | ⟨q, h1, h2, h3, h4⟩
    · exact Or.inl ⟨e, a A (by omega) (cd_s_rf A)⟩
    · exact Or.inr ⟨q, h1, h2, h3, fun z z1 z2 => h4 z (by have := cd_s_le z1; omega) z1 z2⟩
  | succ d ih =>
    intro p x hp E
    have hp31 : p < 2 ^ 31 := by omega
    have hcp := cd_p_le p n
    have keep : (cd_s p A → ¬ cd_C n kd lf rt p c) → wY_enough_23 post (nI c) (nI A) (nI n) yn (cd_F kd) (cd_F lf) (cd_F rt) (cd_F f) tr (d + 1) x (nI (p + 1)) := by
      intro g
      refine ih (p + 1) x (by omega) ?_
      rcases E with ⟨e, a⟩ | ⟨q, h1, h2, h3, h4⟩
      · refine Or.inl ⟨e, fun q hq q1 => ?_⟩
        by_cases e2 : q = p
        · rw [e2] at q1 ⊢; exact g q1
        · exact a q (by omega) q1
      · refine Or.inr ⟨q, h1, h2, h3, fun z hz z1 z2 => ?_⟩
        by_cases e2 : z = p
        · rw [e2] at z1 z2; exact absurd z2 (g z1)
        · exact h4 z (by omega) z1 z2
    refine br_f (nI_nlt (by omega) (by omega)) (cd_count hn (cd_if (cd_sub (by omega)) (fun q => ⟨vp_in_nI (by omega) (by decide), cd_yh (f p) c (cd_rd hp31) rfl (by omega) (cd_br (fun q2 => br_t rfl (nm_r (nI_1 p) (keep (fun _ z => q2 (((hY p (by omega)).2 c hc).mpr z))))) (fun q2 => br_f cd_10 ?_))⟩) (fun q => br_t rfl (nm_r (nI_1 p) (keep (fun z => absurd z q))))))
    have q3 := ((hY p (by omega)).2 c hc).mp q2
    rcases E with ⟨e, a⟩ | ⟨t, h1, h2, h3, h4⟩
    · rw [e]
      refine br_t (by decide) (nm_r (nI_1 p) (ih (p + 1) _ (by omega) (Or.inr ⟨p, q, q3, rfl, fun z hz z1 z2 => ?_⟩)))
      by_cases e2 : z = p
      · rw [e2]; exact Nat.le_refl _
      · exact absurd z2 (a z (by omega) z1)
    · have hct := cd_p_le t n
      rw [h3]
      refine br_f (nI_pos (by omega)) (pk_le (cd_p t n) (cd_p p n) (fun le => nm_r (nI_1 p) (ih (p + 1) _ (by omega) (Or.inr ⟨t, h1, h2, rfl, fun z hz z1 z2 => ?_⟩))) (fun lt => nm_r (nI_1 p) (ih (p + 1) _ (by omega) (Or.inr ⟨p, q, q3, rfl, fun z hz z1 z2 => ?_⟩))))
      · by_cases e2 : z = p
        · rw [e2]; exact le
        · exact h4 z (by omega) z1 z2
      · by_cases e2 : z = p
        · rw [e2]; exact Nat.le_refl _
        · have := h4 z (by omega) z1 z2
          omega
end
end
section
def cd_g (kd lf rt : Nat → Nat) (ch s i : Nat) : Prop := (kd i = 3 ∧ cd_B ch (lf i)) ∨ (kd i = 0 ∧ cd_B s (lf i) ∧ cd_B s (rt i)) ∨ (kd i = 1 ∧ (cd_B s (lf i) ∨ cd_B s (rt i))) ∨ (kd i = 2 ∧ (cd_B s (lf i) → cd_B s (rt i)))
noncomputable def cd_tf (kd lf rt : Nat → Nat) (ch : Nat) : Nat → Nat
  | 0 => 0
  | i + 1 => @ite Nat (cd_g kd lf rt ch (cd_tf kd lf rt ch i) i) (Classical.propDecidable _) (cd_tf kd lf rt ch i ||| 2 ^ i) (cd_tf kd lf rt ch i)
section
variable {kd lf rt : Nat → Nat} {ch s i : Nat}
theorem cd_tf_t (h : cd_g kd lf rt ch (cd_tf kd lf rt ch i) i) : cd_tf kd lf rt ch (i + 1) = cd_tf kd lf rt ch i ||| 2 ^ i := by
  rw [cd_tf, if_pos h]
theorem cd_tf_f (h : ¬ cd_g kd lf rt ch (cd_tf kd lf rt ch i) i) : cd_tf kd lf rt ch (i + 1) = cd_tf kd lf rt ch i := by
  rw [cd_tf, if_neg h]
theorem cd_tf_lt : ∀ i, cd_tf kd lf rt ch i < 2 ^ i
  | 0 => (by decide : 0 < 2 ^ 0)
  | i + 1 => by
    have h := cd_tf_lt i
    have h2 : cd_tf kd lf rt ch i < 2 ^ (i + 1) := Nat.lt_of_lt_of_le h (Nat.pow_le_pow_right (by decide) (by omega))
    by_cases q : cd_g kd lf rt ch (cd_tf kd lf rt ch i) i
    · rw [cd_tf_t q]
      exact cd_or_lt h2 (by omega)
    · rw [cd_tf_f q]
      exact h2
theorem cd_tf_B {j : Nat} (hj : j < i) : cd_B (cd_tf kd lf rt ch (i + 1)) j ↔ cd_B (cd_tf kd lf rt ch i) j := by
  by_cases q : cd_g kd lf rt ch (cd_tf kd lf rt ch i) i
  · rw [cd_tf_t q, cd_or2]
    exact ⟨fun z => z.elim id (fun e => by omega), Or.inl⟩
  · rw [cd_tf_f q]
theorem cd_tf_Bi : cd_B (cd_tf kd lf rt ch (i + 1)) i ↔ cd_g kd lf rt ch (cd_tf kd lf rt ch i) i := by
  by_cases q : cd_g kd lf rt ch (cd_tf kd lf rt ch i) i
  · rw [cd_tf_t q, cd_or2]
    exact ⟨fun _ => q, fun _ => Or.inr rfl⟩
  · rw [cd_tf_f q]
    constructor
    · intro z
      exact absurd (cd_lt.mp (cd_tf_lt i) i z) (by omega)
    · intro z
      exact absurd z q
theorem cd_g3 (k : kd i = 3) : cd_g kd lf rt ch s i ↔ cd_B ch (lf i) := by
  unfold cd_g
  exact ⟨fun h => by rcases h with ⟨_, h⟩ | ⟨e, _⟩ | ⟨e, _⟩ | ⟨e, _⟩ <;> first | exact h | omega, fun h => Or.inl ⟨k, h⟩⟩
theorem cd_g0 (k : kd i = 0) : cd_g kd lf rt ch s i ↔ (cd_B s (lf i) ∧ cd_B s (rt i)) := by
  unfold cd_g
  exact ⟨fun h => by rcases h with ⟨e, _⟩ | ⟨_, h⟩ | ⟨e, _⟩ | ⟨e, _⟩ <;> first | exact h | omega, fun h => Or.inr (Or.inl ⟨k, h⟩)⟩
theorem cd_g1 (k : kd i = 1) : cd_g kd lf rt ch s i ↔ (cd_B s (lf i) ∨ cd_B s (rt i)) := by
  unfold cd_g
  exact ⟨fun h => by rcases h with ⟨e, _⟩ | ⟨e, _⟩ | ⟨_, h⟩ | ⟨e, _⟩ <;> first | exact h | omega, fun h => Or.inr (Or.inr (Or.inl ⟨k, h⟩))⟩
theorem cd_g2 (k : kd i = 2) : cd_g kd lf rt ch s i ↔ (cd_B s (lf i) → cd_B s (rt i)) := by
  unfold cd_g
  exact ⟨fun h => by rcases h with ⟨e, _⟩ | ⟨e, _⟩ | ⟨e, _⟩ | ⟨_, h⟩ <;> first | exact h | omega, fun h => Or.inr (Or.inr (Or.inr ⟨k, h⟩))⟩
theorem cd_g4 (k3 : kd i ≠ 3) (k0 : kd i ≠ 0) (k1 : kd i ≠ 1) (k2 : kd i ≠ 2) : ¬ cd_g kd lf rt ch s i := by
  unfold cd_g
  rintro (⟨e, _⟩ | ⟨e, _⟩ | ⟨e, _⟩ | ⟨e, _⟩) <;> omega
end
section
variable {n fd : Nat} {kn hd : Int32} {kd lf rt w : Nat → Nat} {hu : Nat → Int32}
theorem cd_153 {post : Int32 → Prop} {J : Int32 → Int32 → Prop} {ch i : Nat} {P : Prop} {x : Int32} (hi : i < 11) (hx : x = cd_i P) (e : P ↔ cd_g kd lf rt ch (cd_tf kd lf rt ch i) i) (h : J (nI (cd_tf kd lf rt ch (i + 1))) (nI (i + 1))) : wX_trueFor_153 post J (nI ch) (nI (cd_tf kd lf rt ch i)) (nI i) x (nI n) kn (nI fd) hd (cd_F kd) (cd_F lf) (cd_F rt) (cd_F w) hu := by
  subst hx
  refine cd_br (fun q => nm_r (nI_1 i) ?_) (fun q => nm_r (e' := nI (cd_tf kd lf rt ch (i + 1))) ?_ (nm_r (nI_1 i) h))
  · rw [cd_tf_f (fun z => q (e.mpr z))] at h
    exact h
  · rw [cd_tf_t (e.mp q), cd_pw i (by omega), cd_orN]
theorem cd_153z {post : Int32 → Prop} {J : Int32 → Int32 → Prop} {ch i : Nat} (hi : i < 11) (q : ¬ cd_g kd lf rt ch (cd_tf kd lf rt ch i) i) (h : J (nI (cd_tf kd lf rt ch (i + 1))) (nI (i + 1))) : wX_trueFor_153 post J (nI ch) (nI (cd_tf kd lf rt ch i)) (nI i) 0 (nI n) kn (nI fd) hd (cd_F kd) (cd_F lf) (cd_F rt) (cd_F w) hu :=
  cd_153 (P := False) hi (cd_i_f id).symm ⟨False.elim, q⟩ h
theorem cd_153o {post : Int32 → Prop} {J : Int32 → Int32 → Prop} {ch i : Nat} (hi : i < 11) (q : cd_g kd lf rt ch (cd_tf kd lf rt ch i) i) (h : J (nI (cd_tf kd lf rt ch (i + 1))) (nI (i + 1))) : wX_trueFor_153 post J (nI ch) (nI (cd_tf kd lf rt ch i)) (nI i) 1 (nI n) kn (nI fd) hd (cd_F kd) (cd_F lf) (cd_F rt) (cd_F w) hu :=
  cd_153 (P := True) hi (cd_i_t trivial).symm ⟨fun _ => q, fun _ => trivial⟩ h
theorem cd_tru {post : Int32 → Prop} {ch : Nat} (wf : cd_W n kd lf rt) (h : post (nI (cd_tf kd lf rt ch n))) : ∀ d i, i + d = n → wX_trueFor_4 post (nI ch) (nI n) kn (nI fd) hd (cd_F kd) (cd_F lf) (cd_F rt) (cd_F w) hu (d + 1) (nI (cd_tf kd lf rt ch i)) (nI i) := by
  intro d
  have hn := wf.1
  induction d with
  | zero =>
    intro i hi
    have e : i = n := by omega
    subst e
    exact br_t (nI_le (by omega) (by omega)) h
  | succ d ih =>
    intro i hi
    have hw := wf.2 i (by omega)
    have hi31 : i < 2 ^ 31 := by omega
    have hi11 : i < 11 := by omega
    have vin : vp_in (nI i) 11 := vp_in_nI (by omega) (by decide)
    have nx := ih (i + 1) (by omega)
    have gz : ¬ cd_g kd lf rt ch (cd_tf kd lf rt ch i) i → wX_trueFor_153 post (wX_trueFor_4 post (nI ch) (nI n) kn (nI fd) hd (cd_F kd) (cd_F lf) (cd_F rt) (cd_F w) hu (d + 1)) (nI ch) (nI (cd_tf kd lf rt ch i)) (nI i) 0 (nI n) kn (nI fd) hd (cd_F kd) (cd_F lf) (cd_F rt) (cd_F w) hu := fun q => cd_153z hi11 q nx
    have go : cd_g kd lf rt ch (cd_tf kd lf rt ch i) i → wX_trueFor_153 post (wX_trueFor_4 post (nI ch) (nI n) kn (nI fd) hd (cd_F kd) (cd_F lf) (cd_F rt) (cd_F w) hu (d + 1)) (nI ch) (nI (cd_tf kd lf rt ch i)) (nI i) 1 (nI n) kn (nI fd) hd (cd_F kd) (cd_F lf) (cd_F rt) (cd_F w) hu := fun q => cd_153o hi11 q nx
    refine br_f (nI_ge (by omega) (by omega)) ⟨vin, cd_xin (cd_tf kd lf rt ch i) (lf i) rfl (cd_rd hi31) (by omega) ⟨vin, cd_xin (cd_tf kd lf rt ch i) (rt i) rfl (cd_rd hi31) (by omega) ⟨vin, cd_ke 3 hi31 hw.1 (by decide) (fun k => ⟨vin, cd_xin ch (lf i) rfl (cd_rd hi31) (by omega) (cd_153 hi11 rfl (cd_g3 k).symm nx)⟩) (fun k3 => ⟨vin, cd_ke 0 hi31 hw.1 (by decide) (fun k => ?_) (fun k0 => ⟨vin, cd_ke 1 hi31 hw.1 (by decide) (fun k => ?_) (fun k1 => ⟨vin, cd_ke 2 hi31 hw.1 (by decide) (fun k => ?_) (fun k2 => gz (cd_g4 k3 k0 k1 k2))⟩)⟩)⟩)⟩⟩⟩
    · exact cd_br (fun qa => gz (fun z => qa ((cd_g0 k).mp z).1)) (fun qa => cd_br (fun qb => gz (fun z => qb ((cd_g0 k).mp z).2)) (fun qb => go ((cd_g0 k).mpr ⟨qa, qb⟩)))
    · exact cd_br (fun qa => cd_br (fun qb => gz (fun z => ((cd_g1 k).mp z).elim qa qb)) (fun qb => go ((cd_g1 k).mpr (Or.inr qb)))) (fun qa => go ((cd_g1 k).mpr (Or.inl qa)))
    · exact cd_br (fun qa => go ((cd_g2 k).mpr (fun z => absurd z qa))) (fun qa => cd_br (fun qb => gz (fun z => qb ((cd_g2 k).mp z qa))) (fun qb => go ((cd_g2 k).mpr (fun _ => qb))))
theorem cd_trueFor {post : Int32 → Prop} {ch : Nat} (wf : cd_W n kd lf rt) (h : post (nI (cd_tf kd lf rt ch n))) : wpX_trueFor post (nI n, kn, nI fd, hd, cd_F kd, cd_F lf, cd_F rt, cd_F w, hu) (nI ch) := by
  unfold wpX_trueFor
  dsimp only
  exact ⟨n + 1, cd_tru wf h n 0 (by omega)⟩
def cd_ok (n : Nat) (kd lf rt : Nat → Nat) (A c ch : Nat) : Prop := cd_s A (cd_tf kd lf rt ch n) → cd_B (cd_tf kd lf rt ch n) c
theorem cd_xcl {post : Int32 → Prop} {A c : Nat} (wf : cd_W n kd lf rt) (hA : A < 2 ^ n) (hc : c < n) (h : post (cd_i (∀ k, k < 16 → cd_ok n kd lf rt A c k))) : ∀ d ch, ch + d = 16 → wX_classically_23 post (nI c) (nI A) (nI n) kn (nI fd) hd (cd_F kd) (cd_F lf) (cd_F rt) (cd_F w) hu (d + 1) (cd_i (∀ k, k < ch → cd_ok n kd lf rt A c k)) (nI ch) := by
  intro d
  have hn := wf.1
  have h2n := cd_2n hn
  induction d with
  | zero =>
    intro ch hch
    have e : ch = 16 := by omega
    subst e
    refine br_t (by decide) (cd_br (fun q => ?_) (fun q => ?_))
    · rw [cd_i_f q] at h; exact h
    · rw [cd_i_t q] at h; exact h
  | succ d ih =>
    intro ch hch
    have nx := ih (ch + 1) (by omega)
    have n0 : ¬ (∀ k, k < ch + 1 → cd_ok n kd lf rt A c k) → wX_classically_23 post (nI c) (nI A) (nI n) kn (nI fd) hd (cd_F kd) (cd_F lf) (cd_F rt) (cd_F w) hu (d + 1) 0 (nI (ch + 1)) := by
      intro z
      rw [cd_i_f z] at nx
      exact nx
    have n1 : (∀ k, k < ch → cd_ok n kd lf rt A c k) → cd_ok n kd lf rt A c ch → wX_classically_23 post (nI c) (nI A) (nI n) kn (nI fd) hd (cd_F kd) (cd_F lf) (cd_F rt) (cd_F w) hu (d + 1) 1 (nI (ch + 1)) := by
      intro z y
      rw [cd_i_t (fun k hk => ?_)] at nx
      · exact nx
      · by_cases e : k = ch
        · rw [e]; exact y
        · exact z k (by omega)
    refine br_f (nI_ge (b := 16) (by omega) (by decide)) (cd_trueFor wf (cd_br (fun q => nm_r (nI_1 ch) (n0 (fun z => q (fun k hk => z k (by omega))))) (fun q => cd_if (cd_sub (by omega)) (fun q2 => cd_xin (cd_tf kd lf rt ch n) c rfl rfl (by omega) (cd_br (fun q3 => nm_r (nI_1 ch) (n0 (fun z => q3 (z ch (by omega) q2)))) (fun q3 => nm_r (nI_1 ch) (n1 q (fun _ => q3))))) (fun q2 => nm_r (nI_1 ch) (n1 q (fun z => absurd z q2))))))
end
section
variable {n : Nat} {yn : Int32} {kd lf rt f : Nat → Nat} {tr : Nat → Int32}
theorem cd_jud {post : SY → Prop} {ch : Nat} (wf : cd_W n kd lf rt) (h : ∀ tr, (∀ j, j < n → tr j = cd_i (cd_B (cd_tf kd lf rt ch n) j)) → post (nI n, yn, cd_F kd, cd_F lf, cd_F rt, cd_F f, tr)) : ∀ d i tr, i + d = n → (∀ j, j < i → tr j = cd_i (cd_B (cd_tf kd lf rt ch i) j)) → wY_judge_2 post (nI ch) (nI n) yn (d + 1) (nI i) (cd_F kd) (cd_F lf) (cd_F rt) (cd_F f) tr := by
  intro d
  have hn := wf.1
  induction d with
  | zero =>
    intro i tr hi H
    have e : i = n := by omega
    subst e
    exact br_t (nI_le (by omega) (by omega)) (h tr H)
  | succ d ih =>
    intro i tr hi H
    have hw := wf.2 i (by omega)
    have hl11 := hw.2.1
    have hr11 := hw.2.2.1
    have hi31 : i < 2 ^ 31 := by omega
    have hl31 : lf i < 2 ^ 31 := by omega
    have hr31 : rt i < 2 ^ 31 := by omega
    have vin : vp_in (nI i) 11 := vp_in_nI (by omega) (by decide)
    have vl : vp_in (nI (lf i)) 11 := vp_in_nI (by omega) (by decide)
    have vr : vp_in (nI (rt i)) 11 := vp_in_nI (by omega) (by decide)
    have nx : ∀ x : Int32, x = cd_i (cd_g kd lf rt ch (cd_tf kd lf rt ch i) i) → wY_judge_2 post (nI ch) (nI n) yn (d + 1) (nI (i + 1)) (cd_F kd) (cd_F lf) (cd_F rt) (cd_F f) (upd tr (nI i).toNatClampNeg (vp_nar .boolean x)) := by
      intro x hx
      rw [hx, cd_i_v, nI_clamp hi31]
      refine ih (i + 1) _ (by omega) (fun j hj => ?_)
      by_cases e : j = i
      · rw [e, pk_us]
        exact cd_i_c cd_tf_Bi.symm
      · rw [pk_un e, H j (by omega)]
        exact cd_i_c (cd_tf_B (by omega)).symm
    have n0 : ¬ cd_g kd lf rt ch (cd_tf kd lf rt ch i) i → wY_judge_2 post (nI ch) (nI n) yn (d + 1) (nI (i + 1)) (cd_F kd) (cd_F lf) (cd_F rt) (cd_F f) (upd tr (nI i).toNatClampNeg (vp_nar .boolean 0)) := fun q => nx 0 (cd_i_f q).symm
    have n1 : cd_g kd lf rt ch (cd_tf kd lf rt ch i) i → wY_judge_2 post (nI ch) (nI n) yn (d + 1) (nI (i + 1)) (cd_F kd) (cd_F lf) (cd_F rt) (cd_F f) (upd tr (nI i).toNatClampNeg (vp_nar .boolean 1)) := fun q => nx 1 (cd_i_t q).symm
    have tl : kd i ≤ 2 → tr (nI (lf i)).toNatClampNeg = cd_i (cd_B (cd_tf kd lf rt ch i) (lf i)) := fun k => by rw [nI_clamp hl31]; exact H _ (hw.2.2.2 k).1
    have tt : kd i ≤ 2 → tr (nI (rt i)).toNatClampNeg = cd_i (cd_B (cd_tf kd lf rt ch i) (rt i)) := fun k => by rw [nI_clamp hr31]; exact H _ (hw.2.2.2 k).2
    refine br_f (nI_ge (by omega) (by omega)) ⟨vin, nm_r (cd_rd hi31) ⟨vin, nm_r (cd_rd hi31) ⟨vin, cd_ke 3 hi31 hw.1 (by decide) (fun k => cd_yh ch (lf i) rfl rfl (by omega) ⟨vin, nm_e (nm_r (nI_1 i) (nx _ (cd_i_c (cd_g3 k).symm)))⟩) (fun k3 => ⟨vin, cd_ke 4 hi31 hw.1 (by decide) (fun k => ⟨vin, nm_e (nm_r (nI_1 i) (n0 (cd_g4 k3 (by omega) (by omega) (by omega))))⟩) (fun k4 => ⟨vin, cd_ke 0 hi31 hw.1 (by decide) (fun k => ⟨vl, ?_⟩) (fun k0 => ⟨vin, cd_ke 1 hi31 hw.1 (by decide) (fun k => ⟨vl, ?_⟩) (fun k1 => ⟨vl, ?_⟩)⟩)⟩)⟩)⟩⟩⟩
    · rw [tl (by omega), tt (by omega)]
      exact cd_br (fun qa => ⟨vin, nm_e (nm_r (nI_1 i) (n0 (fun z => qa ((cd_g0 k).mp z).1)))⟩) (fun qa => ⟨vr, cd_br (fun qb => ⟨vin, nm_e (nm_r (nI_1 i) (n0 (fun z => qb ((cd_g0 k).mp z).2)))⟩) (fun qb => ⟨vin, nm_e (nm_r (nI_1 i) (n1 ((cd_g0 k).mpr ⟨qa, qb⟩)))⟩)⟩)
    · rw [tl (by omega), tt (by omega)]
      exact cd_br (fun qa => ⟨vr, cd_br (fun qb => ⟨vin, nm_e (nm_r (nI_1 i) (n0 (fun z => ((cd_g1 k).mp z).elim qa qb)))⟩) (fun qb => ⟨vin, nm_e (nm_r (nI_1 i) (n1 ((cd_g1 k).mpr (Or.inr qb))))⟩)⟩) (fun qa => ⟨vin, nm_e (nm_r (nI_1 i) (n1 ((cd_g1 k).mpr (Or.inl qa))))⟩)
    · have k : kd i = 2 := by omega
      rw [tl (by omega), tt (by omega)]
      exact cd_br (fun qa => ⟨vin, nm_e (nm_r (nI_1 i) (n1 ((cd_g2 k).mpr (fun z => absurd z qa))))⟩) (fun qa => ⟨vr, cd_br (fun qb => ⟨vin, nm_e (nm_r (nI_1 i) (n0 (fun z => qb ((cd_g2 k).mp z qa))))⟩) (fun qb => ⟨vin, nm_e (nm_r (nI_1 i) (n1 ((cd_g2 k).mpr (fun _ => qb))))⟩)⟩)
theorem cd_judge {post : SY → Prop} {ch : Nat} (wf : cd_W n kd lf rt) (h : ∀ tr, (∀ j, j < n → tr j = cd_i (cd_B (cd_tf kd lf rt ch n) j)) → post (nI n, yn, cd_F kd, cd_F lf, cd_F rt, cd_F f, tr)) : wpY_judge post (nI n, yn, cd_F kd, cd_F lf, cd_F rt, cd_F f, tr) (nI ch) := by
  unfold wpY_judge
  dsimp only
  exact ⟨n + 1, cd_jud wf h n 0 tr (by omega) (fun j hj => by omega)⟩
theorem cd_mS {v : Int32} {T : Nat} : cd_s (cd_m n v) T ↔ ∀ j, j < n → bt v j = true → cd_B T j :=
  ⟨fun h j hj q => h j (cd_mB.mpr ⟨hj, q⟩), fun h j q => h j (cd_mB.mp q).1 (cd_mB.mp q).2⟩
theorem cd_y29 {post : Int32 → SY → Prop} {J12 : Int32 → Int32 → Int32 → (Nat → Int32) → (Nat → Int32) → (Nat → Int32) → (Nat → Int32) → (Nat → Int32) → Prop} {v : Int32} {c ch T : Nat} (hn : n ≤ 11) (hc : c < n) (ht : ∀ j, j < n → tr j = cd_i (cd_B T j)) (h1 : (cd_s (cd_m n v) T → cd_B T c) → J12 (nI (ch + 1)) (nI n) yn (cd_F kd) (cd_F lf) (cd_F rt) (cd_F f) tr) (h0 : ¬ (cd_s (cd_m n v) T → cd_B T c) → post 0 (nI n, yn, cd_F kd, cd_F lf, cd_F rt, cd_F f, tr)) : ∀ d i, i + d = n → wY_classically_29 post J12 v (nI c) (nI ch) (nI n) yn (cd_F kd) (cd_F lf) (cd_F rt) (cd_F f) tr (d + 1) (cd_i (∀ j, j < i → bt v j = true → cd_B T j)) (nI i) := by
  intro d
  induction d with
  | zero =>
    intro i hi
    have e : i = n := by omega
    subst e
    have hc31 : c < 2 ^ 31 := by omega
    refine br_t (nI_le (by omega) (by omega)) (cd_br (fun q => nm_r (nI_1 ch) (h1 (fun z => absurd (cd_mS.mp z) q))) (fun q => ⟨vp_in_nI (by omega) (by decide), ?_⟩))
    rw [nI_clamp hc31, ht c hc]
    exact cd_br (fun q2 => h0 (fun z => q2 (z (cd_mS.mpr q)))) (fun q2 => nm_r (nI_1 ch) (h1 (fun _ => q2)))
  | succ d ih =>
    intro i hi
    have hi31 : i < 2 ^ 31 := by omega
    have nx := ih (i + 1) (by omega)
    have n0 : ¬ (∀ j, j < i + 1 → bt v j = true → cd_B T j) → wY_classically_29 post J12 v (nI c) (nI ch) (nI n) yn (cd_F kd) (cd_F lf) (cd_F rt) (cd_F f) tr (d + 1) 0 (nI (i + 1)) := by
      intro z
      rw [cd_i_f z] at nx
      exact nx
    have n1 : (∀ j, j < i → bt v j = true → cd_B T j) → (bt v i = true → cd_B T i) → wY_classically_29 post J12 v (nI c) (nI ch) (nI n) yn (cd_F kd) (cd_F lf) (cd_F rt) (cd_F f) tr (d + 1) 1 (nI (i + 1)) := by
      intro z y
      rw [cd_i_t (fun k hk => ?_)] at nx
      · exact nx
      · by_cases e : k = i
        · rw [e]; exact y
        · exact z k (by omega)
    refine br_f (nI_ge (by omega) (by omega)) (cd_br (fun q => nm_r (nI_1 i) (n0 (fun z => q (fun j hj => z j (by omega))))) (fun q => cd_yhx i rfl (by omega) (cd_br (fun q2 => nm_r (nI_1 i) (n1 q (fun z => absurd z q2))) (fun q2 => ⟨vp_in_nI (by omega) (by decide), ?_⟩))))
    rw [nI_clamp hi31, ht i (by omega)]
    exact cd_br (fun q3 => nm_r (nI_1 i) (n0 (fun z => q3 (z i (by omega) q2)))) (fun q3 => nm_r (nI_1 i) (n1 q (fun _ => q3)))
theorem cd_y12 {post : Int32 → SY → Prop} {v : Int32} {c : Nat} (wf : cd_W n kd lf rt) (hc : c < n) (h : ∀ tr, post (cd_i (∀ k, k < 16 → cd_ok n kd lf rt (cd_m n v) c k)) (nI n, yn, cd_F kd, cd_F lf, cd_F rt, cd_F f, tr)) : ∀ d ch tr, ch + d = 16 → (∀ k, k < ch → cd_ok n kd lf rt (cd_m n v) c k) → wY_classically_12 post v (nI c) (d + 1) (nI ch) (nI n) yn (cd_F kd) (cd_F lf) (cd_F rt) (cd_F f) tr := by
  intro d
  have hn := wf.1
  induction d with
  | zero =>
    intro ch tr hch H
    have e : ch = 16 := by omega
    subst e
    have := h tr
    rw [cd_i_t H] at this
    exact br_t (by decide) this
  | succ d ih =>
    intro ch tr hch H
    refine br_f (nI_ge (b := 16) (by omega) (by decide)) (cd_judge wf (fun tr ht => ⟨n + 1, ?_⟩))
    have := cd_y29 (n := n) (yn := yn) (kd := kd) (lf := lf) (rt := rt) (f := f) (post := post) (J12 := wY_classically_12 post v (nI c) (d + 1)) (v := v) (ch := ch) hn hc ht (fun q => ih (ch + 1) tr (by omega) (fun k hk => ?_)) (fun q => ?_) n 0 (by omega)
    · rw [cd_i_t (fun j hj => by omega)] at this
      exact this
    · by_cases e : k = ch
      · rw [e]; exact q
      · exact H k (by omega)
    · have := h tr
      rw [cd_i_f (fun z => q (z ch (by omega)))] at this
      exact this
end
end
section
section
variable {n fd : Nat} {kn hd yn : Int32} {kd lf rt w f : Nat → Nat} {hu tr : Nat → Int32}
theorem cd_e3 {i k a b : Nat} {A B : Prop} (wf : cd_W n kd lf rt) (hi : i < n) (hk : k ≤ 4) (ha : a < 11) (hb : b < 11) (f : (kd i = k ∧ lf i = a ∧ rt i = b) → A) (g : ¬ (kd i = k ∧ lf i = a ∧ rt i = b) → B) : (cd_F kd (nI i).toNatClampNeg = nI k → (vp_in (nI i) 11 ∧ ((cd_F lf (nI i).toNatClampNeg = nI a → (vp_in (nI i) 11 ∧ ((cd_F rt (nI i).toNatClampNeg = nI b → A) ∧ (¬ cd_F rt (nI i).toNatClampNeg = nI b → B)))) ∧ (¬ cd_F lf (nI i).toNatClampNeg = nI a → B)))) ∧ (¬ cd_F kd (nI i).toNatClampNeg = nI k → B) := by
  have hn := wf.1
  have hw := wf.2 i hi
  have h1 := hw.1
  have h2 := hw.2.1
  have h3 := hw.2.2.1
  have hi31 : i < 2 ^ 31 := by omega
  have vin : vp_in (nI i) 11 := vp_in_nI (by omega) (by decide)
  rw [cd_rd hi31, cd_rd hi31, cd_rd hi31]
  exact pk_eq (kd i) k (fun q1 => ⟨vin, pk_eq (lf i) a (fun q2 => ⟨vin, pk_eq (rt i) b (fun q3 => f ⟨q1, q2, q3⟩) (fun q3 => g (fun z => q3 z.2.2))⟩) (fun q2 => g (fun z => q2 z.2.1))⟩) (fun q1 => g (fun z => q1 z.1))
theorem cd_xp1 {post : Int32 → SX → Prop} {k a b j : Nat} (wf : cd_W n kd lf rt) (hk : k ≤ 4) (ha : a < 11) (hb : b < 11) (hj : j < n) (hm : kd j = k ∧ lf j = a ∧ rt j = b) (hno : ∀ i, i < j → ¬ (kd i = k ∧ lf i = a ∧ rt i = b)) (h : post (nI j) (nI n, kn, nI fd, hd, cd_F kd, cd_F lf, cd_F rt, cd_F w, hu)) : ∀ d i, i + d = j → wX_put_3 post (nI k) (nI a) (nI b) (nI n) kn (nI fd) hd (cd_F kd) (cd_F lf) (cd_F rt) (cd_F w) hu (d + 1) (nI i) := by
  intro d
  have hn := wf.1
  induction d with
  | zero =>
    intro i hi
    have e : i = j := by omega
    subst e
    exact br_f (nI_ge (by omega) (by omega)) ⟨vp_in_nI (by omega) (by decide), cd_e3 wf hj hk ha hb (fun _ => h) (fun z => absurd hm z)⟩
  | succ d ih =>
    intro i hi
    exact br_f (nI_ge (by omega) (by omega)) ⟨vp_in_nI (by omega) (by decide), cd_e3 wf (by omega) hk ha hb (fun z => absurd z (hno i (by omega))) (fun _ => nm_r (nI_1 i) (ih (i + 1) (by omega)))⟩
theorem cd_xp0 {post : Int32 → SX → Prop} {k a b : Nat} (wf : cd_W n kd lf rt) (hk : k ≤ 4) (ha : a < 11) (hb : b < 11) (hno : ∀ i, i < n → ¬ (kd i = k ∧ lf i = a ∧ rt i = b)) (h1 : n = 11 → post (-2) (nI n, kn, nI fd, hd, cd_F kd, cd_F lf, cd_F rt, cd_F w, hu)) (h2 : n < 11 → post (nI n) (nI (n + 1), 0, nI fd, hd, cd_F (cd_u kd n k), cd_F (cd_u lf n a), cd_F (cd_u rt n b), cd_F w, hu)) : ∀ d i, i + d = n → wX_put_3 post (nI k) (nI a) (nI b) (nI n) kn (nI fd) hd (cd_F kd) (cd_F lf) (cd_F rt) (cd_F w) hu (d + 1) (nI i) := by
  intro d
  have hn := wf.1
  have hn31 : n < 2 ^ 31 := by omega
  induction d with
  | zero =>
    intro i hi
    refine br_t (nI_le (by omega) (by omega)) (pk_eq n 11 h1 (fun q => ?_))
    have vin : vp_in (nI n) 11 := vp_in_nI (by omega) (by decide)
    rw [cd_nb k (by omega), cd_nb a (by omega), cd_nb b (by omega)]
    refine ⟨vin, nm_r (cd_wr hn31) ⟨vin, nm_r (cd_wr hn31) ⟨vin, nm_r (cd_wr hn31) (nm_r (nI_1 n) ?_)⟩⟩⟩
    rw [nI_pred]
    exact h2 (by omega)
  | succ d ih =>
    intro i hi
    exact br_f (nI_ge (by omega) (by omega)) ⟨vp_in_nI (by omega) (by decide), cd_e3 wf (by omega) hk ha hb (fun z => absurd z (hno i (by omega))) (fun _ => nm_r (nI_1 i) (ih (i + 1) (by omega)))⟩
theorem cd_yf1 {post : Int32 → Prop} {k a b j : Nat} (wf : cd_W n kd lf rt) (hk : k ≤ 4) (ha : a < 11) (hb : b < 11) (hj : j < n) (hm : kd j = k ∧ lf j = a ∧ rt j = b) (hno : ∀ i, i < j → ¬ (kd i = k ∧ lf i = a ∧ rt i = b)) (h : post (nI j)) : ∀ d i, i + d = j → wY_find_3 post (nI k) (nI a) (nI b) (nI n) yn (cd_F kd) (cd_F lf) (cd_F rt) (cd_F f) tr (d + 1) (nI i) := by
  intro d
  have hn := wf.1
  induction d with
  | zero =>
    intro i hi
    have e : i = j := by omega
    subst e
    exact br_f (nI_ge (by omega) (by omega)) ⟨vp_in_nI (by omega) (by decide), cd_e3 wf hj hk ha hb (fun _ => h) (fun z => absurd hm z)⟩
  | succ d ih =>
    intro i hi
    exact br_f (nI_ge (by omega) (by omega)) ⟨vp_in_nI (by omega) (by decide), cd_e3 wf (by omega) hk ha hb (fun z => absurd z (hno i (by omega))) (fun _ => nm_r (nI_1 i) (ih (i + 1) (by omega)))⟩
theorem cd_yf0 {post : Int32 → Prop} {k a b : Nat} (wf : cd_W n kd lf rt) (hk : k ≤ 4) (ha : a < 11) (hb : b < 11) (hno : ∀ i, i < n → ¬ (kd i = k ∧ lf i = a ∧ rt i = b)) (h : post (-1)) : ∀ d i, i + d = n → wY_find_3 post (nI k) (nI a) (nI b) (nI n) yn (cd_F kd) (cd_F lf) (cd_F rt) (cd_F f) tr (d + 1) (nI i) := by
  intro d
  have hn := wf.1
  induction d with
  | zero =>
    intro i hi
    exact br_t (nI_le (by omega) (by omega)) h
  | succ d ih =>
    intro i hi
    exact br_f (nI_ge (by omega) (by omega)) ⟨vp_in_nI (by omega) (by decide), cd_e3 wf (by omega) hk ha hb (fun z => absurd z (hno i (by omega))) (fun _ => nm_r (nI_1 i) (ih (i + 1) (by omega)))⟩
theorem cd_Wu {k a b : Nat} (wf : cd_W n kd lf rt) (hn : n < 11) (hk : k ≤ 4) (ha : a < 11) (hb : b < 11) (hab : k ≤ 2 → a < n ∧ b < n) : cd_W (n + 1) (cd_u kd n k) (cd_u lf n a) (cd_u rt n b) := by
  refine ⟨by omega, fun i hi => ?_⟩
  by_cases e : i = n
  · rw [e, cd_u_s, cd_u_s, cd_u_s]
    exact ⟨hk, ha, hb, hab⟩
  · rw [cd_u_n e, cd_u_n e, cd_u_n e]
    exact wf.2 i (by omega)
theorem cd_put {K : Nat} {u : SX} {v : SY} {k a b : Nat} (wf : cd_W n kd lf rt) (hu : cd_XR n kd lf rt u) (hv : cd_YR n kd lf rt v) (hk : k ≤ 4) (ha : a < 11) (hb : b < 11) (hab : k ≤ 2 → a < n ∧ b < n) : ∃ r u' v', i_Rel K u' v' ∧ (∀ post : Int32 → SX → Prop, post r u' → wpX_put post u (nI k) (nI a) (nI b)) ∧ (∀ post : Int32 → SY → Prop, post r v' → wpY_put post v (nI k) (nI a) (nI b)) := by
  have hu0 := hu
  have hv0 := hv
  obtain ⟨kn, fd, hd, w, hu, hI, rfl⟩ := hu
  obtain ⟨yn, f, tr, hJ, rfl⟩ := hv
  have hn := wf.1
  by_cases hm : ∃ j, j < n ∧ kd j = k ∧ lf j = a ∧ rt j = b
  · obtain ⟨j, ⟨hj, hj2⟩, hmin⟩ := pk_least _ hm
    have hno : ∀ i, i < j → ¬ (kd i = k ∧ lf i = a ∧ rt i = b) := fun i hi z => hmin i hi ⟨by omega, z⟩
    refine ⟨nI j, _, _, ⟨n, kd, lf, rt, wf, hu0, hv0⟩, fun post h => ?_, fun post h => ?_⟩
    · unfold wpX_put
      dsimp only
      exact ⟨j + 1, cd_xp1 wf hk ha hb hj hj2 hno h j 0 (by omega)⟩
    · unfold wpY_put wpY_find
      dsimp only
      exact ⟨j + 1, cd_yf1 wf hk ha hb hj hj2 hno (br_f (nI_pos (by omega)) h) j 0 (by omega)⟩
  · have hno : ∀ i, i < n → ¬ (kd i = k ∧ lf i = a ∧ rt i = b) := fun i hi z => hm ⟨i, hi, z⟩
    by_cases h11 : n = 11
    · refine ⟨-2, _, _, ⟨n, kd, lf, rt, wf, hu0, hv0⟩, fun post h => ?_, fun post h => ?_⟩
      · unfold wpX_put
        dsimp only
        exact ⟨n + 1, cd_xp0 wf hk ha hb hno (fun _ => h) (fun z => by omega) n 0 (by omega)⟩
      · unfold wpY_put wpY_find
        dsimp only
        refine ⟨n + 1, cd_yf0 wf hk ha hb hno ?_ n 0 (by omega)⟩
        exact br_t (by decide) (pk_eq n 11 (fun _ => h) (fun z => absurd h11 z))
    · have wf2 := cd_Wu wf (by omega) hk ha hb hab
      refine ⟨nI n, (nI (n + 1), 0, nI fd, hd, cd_F (cd_u kd n k), cd_F (cd_u lf n a), cd_F (cd_u rt n b), cd_F w, hu), (nI (n + 1), 0, cd_F (cd_u kd n k), cd_F (cd_u lf n a), cd_F (cd_u rt n b), cd_F f, tr), ⟨n + 1, _, _, _, wf2, ⟨0, fd, hd, w, hu, fun z => absurd rfl z, rfl⟩, ⟨0, f, tr, fun z => absurd rfl z, rfl⟩⟩, fun post h => ?_, fun post h => ?_⟩
      · unfold wpX_put
        dsimp only
        exact ⟨n + 1, cd_xp0 wf hk ha hb hno (fun z => absurd z h11) (fun _ => h) n 0 (by omega)⟩
      · have hn31 : n < 2 ^ 31 := by omega
        have vin : vp_in (nI n) 11 := vp_in_nI (by omega) (by decide)
        unfold wpY_put wpY_find
        dsimp only
        refine ⟨n + 1, cd_yf0 wf hk ha hb hno ?_ n 0 (by omega)⟩
        refine br_t (by decide) (pk_eq n 11 (fun z => absurd z h11) (fun _ => ⟨vin, nm_r (cd_wr hn31) ⟨vin, nm_r (cd_wr hn31) ⟨vin, nm_r (cd_wr hn31) (nm_r (nI_1 n) ?_)⟩⟩⟩))
        rw [nI_pred]
        exact h
end
end
section
section
variable {n : Nat} {kd lf rt : Nat → Nat}
theorem cd_xfollows {post : Int32 → SX → Prop} {u : SX} {x : Int32} {c : Nat} (wf : cd_W n kd lf rt) (hu : cd_XR n kd lf rt u) (hc : c < n) (h : ∀ u', cd_XR n kd lf rt u' → post (cd_i (cd_C n kd lf rt (cd_m n x) c)) u') : wpX_follows post u x (nI c) := by
  have hu0 := hu
  have hn := wf.1
  obtain ⟨kn, fd, hd, w, hu, hI, rfl⟩ := hu
  unfold wpX_follows
  dsimp only
  refine cd_xmi hn hc (br_t rfl (cd_find wf hu0 (fun kn fd hd w hu I => ?_)))
  dsimp only
  refine cd_xev hn (nm_r (cd_mN hn x) (cd_closure hn (cd_m_lt n x) I (fun r hr br => ?_)))
  rw [cd_bitN r (by omega), cd_i_c (br c hc)]
  exact h _ ⟨kn, fd, hd, w, hu, fun _ => I, rfl⟩
theorem cd_xfollows_o {post : Int32 → SX → Prop} {u : SX} {x y : Int32} (hu : cd_XR n kd lf rt u) (hy : y < 0 ∨ nI n ≤ y) (h : post (-1) u) : wpX_follows post u x y := by
  obtain ⟨kn, fd, hd, w, hu, hI, rfl⟩ := hu
  unfold wpX_follows
  dsimp only
  exact cd_xmo hy (br_f cd_10 h)
theorem cd_yfollows {post : Int32 → SY → Prop} {v : SY} {x : Int32} {c : Nat} (wf : cd_W n kd lf rt) (hv : cd_YR n kd lf rt v) (hc : c < n) (h : ∀ v', cd_YR n kd lf rt v' → post (cd_i (cd_C n kd lf rt (cd_m n x) c)) v') : wpY_follows post v x (nI c) := by
  have hv0 := hv
  have hn := wf.1
  have h2n := cd_2n hn
  have hm := cd_m_lt n x
  have hm31 : cd_m n x < 2 ^ 31 := by omega
  obtain ⟨yn, f, tr, hI, rfl⟩ := hv
  unfold wpY_follows
  dsimp only
  refine cd_ymi hn hc (br_f cd_10 (cd_taken wf hv0 (fun yn f tr I => ?_)))
  dsimp only
  have H := h (nI n, yn, cd_F kd, cd_F lf, cd_F rt, cd_F f, tr) ⟨yn, f, tr, fun _ => I, rfl⟩
  rw [← cd_i_c ((I _ hm).2 c hc)] at H
  refine ⟨vp_in_nI (by omega) (by decide), cd_yh (f (cd_m n x)) c (cd_rd hm31) rfl (by omega) (cd_br (fun q => ?_) (fun q => ?_))⟩
  · rw [cd_i_f q] at H; exact H
  · rw [cd_i_t q] at H; exact H
theorem cd_yfollows_o {post : Int32 → SY → Prop} {v : SY} {x y : Int32} (hv : cd_YR n kd lf rt v) (hy : y < 0 ∨ nI n ≤ y) (h : post (-1) v) : wpY_follows post v x y := by
  obtain ⟨yn, f, tr, hI, rfl⟩ := hv
  unfold wpY_follows
  dsimp only
  exact cd_ymo hy (br_t rfl h)
theorem cd_xall {post : Int32 → SX → Prop} {u : SX} {x : Int32} (wf : cd_W n kd lf rt) (hu : cd_XR n kd lf rt u) (h : ∀ u' r, cd_XR n kd lf rt u' → r < 2 ^ n → (∀ c, c < n → (cd_B r c ↔ cd_C n kd lf rt (cd_m n x) c)) → post (nI r) u') : wpX_all post u x := by
  have hu0 := hu
  have hn := wf.1
  obtain ⟨kn, fd, hd, w, hu, hI, rfl⟩ := hu
  unfold wpX_all
  dsimp only
  refine cd_find wf hu0 (fun kn fd hd w hu I => ?_)
  dsimp only
  exact cd_xev hn (nm_r (cd_mN hn x) (cd_closure hn (cd_m_lt n x) I (fun r hr br => h _ r ⟨kn, fd, hd, w, hu, fun _ => I, rfl⟩ hr br)))
theorem cd_yall {post : Int32 → SY → Prop} {v : SY} {x : Int32} (wf : cd_W n kd lf rt) (hv : cd_YR n kd lf rt v) (h : ∀ v' r, cd_YR n kd lf rt v' → r < 2 ^ n → (∀ c, c < n → (cd_B r c ↔ cd_C n kd lf rt (cd_m n x) c)) → post (nI r) v') : wpY_all post v x := by
  have hv0 := hv
  have hn := wf.1
  have h2n := cd_2n hn
  have hm := cd_m_lt n x
  have hm31 : cd_m n x < 2 ^ 31 := by omega
  obtain ⟨yn, f, tr, hI, rfl⟩ := hv
  unfold wpY_all
  dsimp only
  refine cd_taken wf hv0 (fun yn f tr I => ?_)
  dsimp only
  rw [cd_rd hm31]
  exact ⟨vp_in_nI (by omega) (by decide), h _ _ ⟨yn, f, tr, fun _ => I, rfl⟩ (I _ hm).1 (I _ hm).2⟩
theorem cd_xclass {post : Int32 → Prop} {u : SX} {x : Int32} {c : Nat} (wf : cd_W n kd lf rt) (hu : cd_XR n kd lf rt u) (hc : c < n) (h : post (cd_i (∀ k, k < 16 → cd_ok n kd lf rt (cd_m n x) c k))) : wpX_classically post u x (nI c) := by
  have hn := wf.1
  obtain ⟨kn, fd, hd, w, hu, hI, rfl⟩ := hu
  unfold wpX_classically
  dsimp only
  refine cd_xmi hn hc (br_t rfl (cd_xev hn (nm_r (cd_mN hn x) ⟨17, ?_⟩)))
  have := cd_xcl (n := n) (fd := fd) (kn := kn) (hd := hd) (w := w) (hu := hu) (post := post) wf (cd_m_lt n x) hc h 16 0 (by omega)
  rw [cd_i_t (fun k hk => by omega)] at this
  exact this
theorem cd_xclass_o {post : Int32 → Prop} {u : SX} {x y : Int32} (hu : cd_XR n kd lf rt u) (hy : y < 0 ∨ nI n ≤ y) (h : post (-1)) : wpX_classically post u x y := by
  obtain ⟨kn, fd, hd, w, hu, hI, rfl⟩ := hu
  unfold wpX_classically
  dsimp only
  exact cd_xmo hy (br_f cd_10 h)
theorem cd_yclass {post : Int32 → SY → Prop} {v : SY} {x : Int32} {c : Nat} (wf : cd_W n kd lf rt) (hv : cd_YR n kd lf rt v) (hc : c < n) (h : ∀ v', cd_YR n kd lf rt v' → post (cd_i (∀ k, k < 16 → cd_ok n kd lf rt (cd_m n x) c k)) v') : wpY_classically post v x (nI c) := by
  have hn := wf.1
  obtain ⟨yn, f, tr, hI, rfl⟩ := hv
  unfold wpY_classically
  dsimp only
  exact cd_ymi hn hc (br_f cd_10 ⟨17, cd_y12 wf hc (fun tr => h _ ⟨yn, f, tr, hI, rfl⟩) 16 0 tr (by omega) (fun k hk => by omega)⟩)
theorem cd_yclass_o {post : Int32 → SY → Prop} {v : SY} {x y : Int32} (hv : cd_YR n kd lf rt v) (hy : y < 0 ∨ nI n ≤ y) (h : post (-1) v) : wpY_classically post v x y := by
  obtain ⟨yn, f, tr, hI, rfl⟩ := hv
  unfold wpY_classically
  dsimp only
  exact cd_ymo hy (br_t rfl h)
def cd_al (n : Nat) (kd lf rt : Nat → Nat) (a b : Nat) : Prop := ∀ t, t < 2 ^ n → cd_w n kd lf rt t → (cd_B t a ↔ cd_B t b)
theorem cd_xalike {post : Int32 → SX → Prop} {u : SX} {a b : Nat} (wf : cd_W n kd lf rt) (hu : cd_XR n kd lf rt u) (ha : a < n) (hb : b < n) (h : ∀ u', cd_XR n kd lf rt u' → post (cd_i (cd_al n kd lf rt a b)) u') : wpX_alike post u (nI a) (nI b) := by
  have hu0 := hu
  have hn := wf.1
  have h2n := cd_2n hn
  obtain ⟨kn, fd, hd, w, hu, hI, rfl⟩ := hu
  unfold wpX_alike
  dsimp only
  refine cd_xmi hn ha (br_t rfl (cd_xmi hn hb (br_t rfl (cd_find wf hu0 (fun kn fd hd w hu I => ?_)))))
  dsimp only
  have hf := cd_XI_fd I
  refine ⟨fd + 1, cd_alk (by omega) (by omega) (by omega) fd 0 (by omega) ?_⟩
  rw [← cd_i_c (P := cd_al n kd lf rt a b)]
  · exact h _ ⟨kn, fd, hd, w, hu, fun _ => I, rfl⟩
  · constructor
    · intro z i _ hi
      obtain ⟨_, g2, g3⟩ := I.1 i hi
      exact z _ g2 g3
    · intro z t ht tw
      obtain ⟨j, hj, e⟩ := I.2.1 t (Nat.zero_le _) ht tw
      rw [← e]
      exact z j (Nat.zero_le _) hj
theorem cd_xalike_o1 {post : Int32 → SX → Prop} {u : SX} {x y : Int32} (hu : cd_XR n kd lf rt u) (hx : x < 0 ∨ nI n ≤ x) (h : post (-1) u) : wpX_alike post u x y := by
  obtain ⟨kn, fd, hd, w, hu, hI, rfl⟩ := hu
  unfold wpX_alike
  dsimp only
  exact cd_xmo hx (br_f cd_10 h)
theorem cd_xalike_o2 {post : Int32 → SX → Prop} {u : SX} {a : Nat} {y : Int32} (hn : n ≤ 11) (hu : cd_XR n kd lf rt u) (ha : a < n) (hy : y < 0 ∨ nI n ≤ y) (h : post (-1) u) : wpX_alike post u (nI a) y := by
  obtain ⟨kn, fd, hd, w, hu, hI, rfl⟩ := hu
  unfold wpX_alike
  dsimp only
  exact cd_xmi hn ha (br_t rfl (cd_xmo hy (br_f cd_10 h)))
theorem cd_al_iff {a b : Nat} : cd_al n kd lf rt a b ↔ (cd_C n kd lf rt (2 ^ a) b ∧ cd_C n kd lf rt (2 ^ b) a) := by
  have s2 : ∀ a t, cd_s (2 ^ a) t ↔ cd_B t a := fun a t => ⟨fun h => h a (cd_2.mpr rfl), fun h i q => by rw [cd_2.mp q]; exact h⟩
  constructor
  · intro z
    exact ⟨fun t ht tw st => (z t ht tw).mp ((s2 a t).mp st), fun t ht tw st => (z t ht tw).mpr ((s2 b t).mp st)⟩
  · rintro ⟨z1, z2⟩ t ht tw
    exact ⟨fun q => z1 t ht tw ((s2 a t).mpr q), fun q => z2 t ht tw ((s2 b t).mpr q)⟩
theorem cd_yalike {post : Int32 → SY → Prop} {v : SY} {a b : Nat} (wf : cd_W n kd lf rt) (hv : cd_YR n kd lf rt v) (ha : a < n) (hb : b < n) (h : ∀ v', cd_YR n kd lf rt v' → post (cd_i (cd_al n kd lf rt a b)) v') : wpY_alike post v (nI a) (nI b) := by
  have hv0 := hv
  have hn := wf.1
  have h2n := cd_2n hn
  have b2 : ∀ j, j < n → 2 ^ j < 2 ^ n := fun j hj => cd_lt.mpr (fun i q => by rw [cd_2] at q; omega)
  have ha2 := b2 a ha
  have hb2 := b2 b hb
  have ha31 : 2 ^ a < 2 ^ 31 := by omega
  have hb31 : 2 ^ b < 2 ^ 31 := by omega
  obtain ⟨yn, f, tr, hI, rfl⟩ := hv
  unfold wpY_alike
  dsimp only
  refine cd_ymi hn ha (br_f cd_10 (cd_ymi hn hb (br_f cd_10 (cd_work wf hv0 (fun yn f tr I => ?_)))))
  dsimp only
  have H := h (nI n, yn, cd_F kd, cd_F lf, cd_F rt, cd_F f, tr) ⟨yn, f, tr, fun _ => I, rfl⟩
  rw [cd_pw a (by omega), cd_pw b (by omega)]
  refine ⟨vp_in_nI (by omega) (by decide), cd_yh (f (2 ^ a)) b (cd_rd ha31) rfl (by omega) (cd_br (fun q => ?_) (fun q => ⟨vp_in_nI (by omega) (by decide), cd_yh (f (2 ^ b)) a (cd_rd hb31) rfl (by omega) (cd_br (fun q2 => ?_) (fun q2 => ?_))⟩))⟩
  · rw [cd_i_f (fun z => q (((I _ ha2).2 b hb).mpr (cd_al_iff.mp z).1))] at H
    exact H
  · rw [cd_i_f (fun z => q2 (((I _ hb2).2 a ha).mpr (cd_al_iff.mp z).2))] at H
    exact H
  · rw [cd_i_t (cd_al_iff.mpr ⟨((I _ ha2).2 b hb).mp q, ((I _ hb2).2 a ha).mp q2⟩)] at H
    exact H
theorem cd_yalike_o1 {post : Int32 → SY → Prop} {v : SY} {x y : Int32} (hv : cd_YR n kd lf rt v) (hx : x < 0 ∨ nI n ≤ x) (h : post (-1) v) : wpY_alike post v x y := by
  obtain ⟨yn, f, tr, hI, rfl⟩ := hv
  unfold wpY_alike
  dsimp only
  exact cd_ymo hx (br_t rfl h)
theorem cd_yalike_o2 {post : Int32 → SY → Prop} {v : SY} {a : Nat} {y : Int32} (hn : n ≤ 11) (hv : cd_YR n kd lf rt v) (ha : a < n) (hy : y < 0 ∨ nI n ≤ y) (h : post (-1) v) : wpY_alike post v (nI a) y := by
  obtain ⟨yn, f, tr, hI, rfl⟩ := hv
  unfold wpY_alike
  dsimp only
  exact cd_ymi hn ha (br_f cd_10 (cd_ymo hy (br_t rfl h)))
theorem cd_xenough {post : Int32 → SX → Prop} {u : SX} {x : Int32} {c : Nat} (wf : cd_W n kd lf rt) (hu : cd_XR n kd lf rt u) (hc : c < n) (h : ∀ u' r, cd_XR n kd lf rt u' → cd_ER n kd lf rt (cd_m n x) c r → post r u') : wpX_enough post u x (nI c) := by
  have hu0 := hu
  have hn := wf.1
  have h2n := cd_2n hn
  have hm := cd_m_lt n x
  obtain ⟨kn, fd, hd, w, hu, hI, rfl⟩ := hu
  unfold wpX_enough
  dsimp only
  refine cd_xmi hn hc (br_t rfl (cd_find wf hu0 (fun kn fd hd w hu I => ?_)))
  dsimp only
  have hf := cd_XI_fd I
  refine cd_xev hn (nm_r (cd_mN hn x) (cd_gather (by omega) (by omega) (by omega) (fun h' hu G => ?_)))
  dsimp only
  have e : (∀ k, k < fd → ¬ cd_B (w k) c → ¬ cd_s (cd_m n x) (w k)) ↔ cd_C n kd lf rt (cd_m n x) c := by
    rw [cd_CX I]
    constructor
    · intro z i hi g
      apply Classical.byContradiction
      intro nb
      exact z i hi nb g
    · intro z i hi nb g
      exact nb (z i hi g)
  rw [cd_i_c e]
  refine cd_br (fun q => h _ _ ⟨kn, fd, _, w, hu, fun _ => I, rfl⟩ (Or.inl ⟨rfl, q⟩)) (fun q => cd_sizeOf hn ⟨cd_m n x + 1, ?_⟩)
  exact cd_eno hn I hm G (fun r E => h _ r ⟨kn, fd, _, w, hu, fun _ => I, rfl⟩ E) (cd_m n x) (cd_m n x) _ (Nat.le_refl _) (cd_s_rf _) ⟨cd_m n x, cd_s_rf _, q, rfl⟩ (fun z z1 _ z3 => by have := cd_s_le z1; omega)
theorem cd_xenough_o {post : Int32 → SX → Prop} {u : SX} {x y : Int32} (hu : cd_XR n kd lf rt u) (hy : y < 0 ∨ nI n ≤ y) (h : post (-1) u) : wpX_enough post u x y := by
  obtain ⟨kn, fd, hd, w, hu, hI, rfl⟩ := hu
  unfold wpX_enough
  dsimp only
  exact cd_xmo hy (br_f cd_10 h)
theorem cd_yenough {post : Int32 → SY → Prop} {v : SY} {x : Int32} {c : Nat} (wf : cd_W n kd lf rt) (hv : cd_YR n kd lf rt v) (hc : c < n) (h : ∀ v' r, cd_YR n kd lf rt v' → cd_ER n kd lf rt (cd_m n x) c r → post r v') : wpY_enough post v x (nI c) := by
  have hv0 := hv
  have hn := wf.1
  have hm := cd_m_lt n x
  obtain ⟨yn, f, tr, hI, rfl⟩ := hv
  unfold wpY_enough
  dsimp only
  refine cd_ymi hn hc (br_f cd_10 (cd_taken wf hv0 (fun yn f tr I => ?_)))
  dsimp only
  exact ⟨cd_m n x + 1 + 1, cd_yen hn hm hc I (fun r E => h _ r ⟨yn, f, tr, fun _ => I, rfl⟩ E) (cd_m n x + 1) 0 (-4) (by omega) (Or.inl ⟨rfl, fun q hq => by omega⟩)⟩
theorem cd_yenough_o {post : Int32 → SY → Prop} {v : SY} {x y : Int32} (hv : cd_YR n kd lf rt v) (hy : y < 0 ∨ nI n ≤ y) (h : post (-1) v) : wpY_enough post v x y := by
  obtain ⟨yn, f, tr, hI, rfl⟩ := hv
  unfold wpY_enough
  dsimp only
  exact cd_ymo hy (br_t rfl h)
theorem cd_xsat {post : Int32 → SX → Prop} {u : SX} {x : Int32} (wf : cd_W n kd lf rt) (hu : cd_XR n kd lf rt u) (h : ∀ u', cd_XR n kd lf rt u' → post (cd_i (cd_w n kd lf rt (cd_m n x))) u') : wpX_saturated post u x := by
  have hu0 := hu
  have hn := wf.1
  have h2n := cd_2n hn
  have hm := cd_m_lt n x
  obtain ⟨kn, fd, hd, w, hu, hI, rfl⟩ := hu
  unfold wpX_saturated
  dsimp only
  refine cd_find wf hu0 (fun kn fd hd w hu I => ?_)
  dsimp only
  have hf := cd_XI_fd I
  refine cd_xev hn (nm_r (cd_mN hn x) ⟨fd + 1, cd_sat (by omega) (by omega) (fun j hj => ?_) ?_ fd 0 0 (by omega) (cd_i_f ?_).symm⟩)
  · have := (I.1 j hj).2.1
    omega
  · rw [← cd_i_c (P := cd_w n kd lf rt (cd_m n x))]
    · exact h _ ⟨kn, fd, hd, w, hu, fun _ => I, rfl⟩
    · constructor
      · intro z
        exact I.2.1 _ (Nat.zero_le _) hm z
      · rintro ⟨i, hi, e⟩
        have := (I.1 i hi).2.2
        rw [e] at this
        exact this
  · rintro ⟨i, hi, _⟩
    omega
theorem cd_ysat {post : Int32 → SY → Prop} {v : SY} {x : Int32} (wf : cd_W n kd lf rt) (hv : cd_YR n kd lf rt v) (h : ∀ v', cd_YR n kd lf rt v' → post (cd_i (cd_w n kd lf rt (cd_m n x))) v') : wpY_saturated post v x := by
  have hv0 := hv
  have hm := cd_m_lt n x
  obtain ⟨yn, f, tr, hI, rfl⟩ := hv
  unfold wpY_saturated
  dsimp only
  refine cd_taken wf hv0 (fun yn f tr I => ?_)
  dsimp only
  have H := h (nI n, yn, cd_F kd, cd_F lf, cd_F rt, cd_F f, tr) ⟨yn, f, tr, fun _ => I, rfl⟩
  refine cd_yisw wf hm (I _ hm) (cd_br (fun q => ?_) (fun q => ?_))
  · rw [cd_i_f q] at H; exact H
  · rw [cd_i_t q] at H; exact H
theorem cd_xworlds {post : Int32 → SX → Prop} {u : SX} (wf : cd_W n kd lf rt) (hu : cd_XR n kd lf rt u) (h : ∀ u', cd_XR n kd lf rt u' → post (nI (cd_n (cd_w n kd lf rt) (2 ^ n))) u') : wpX_worlds post u := by
  have hu0 := hu
  obtain ⟨kn, fd, hd, w, hu, hI, rfl⟩ := hu
  unfold wpX_worlds
  dsimp only
  refine cd_find wf hu0 (fun kn fd hd w hu I => ?_)
  dsimp only
  have e : fd = cd_n (cd_w n kd lf rt) (2 ^ n) := I.2.2.2
  have H := h _ ⟨kn, fd, hd, w, hu, fun _ => I, rfl⟩
  rw [← e] at H
  exact H
theorem cd_yworlds {post : Int32 → SY → Prop} {v : SY} (wf : cd_W n kd lf rt) (hv : cd_YR n kd lf rt v) (h : ∀ v', cd_YR n kd lf rt v' → post (nI (cd_n (cd_w n kd lf rt) (2 ^ n))) v') : wpY_worlds post v := by
  have hv0 := hv
  obtain ⟨yn, f, tr, hI, rfl⟩ := hv
  unfold wpY_worlds
  dsimp only
  refine cd_work wf hv0 (fun yn f tr I => ?_)
  dsimp only
  exact ⟨2 ^ n + 1, cd_ywo wf I (h _ ⟨yn, f, tr, fun _ => I, rfl⟩) (2 ^ n) 0 (by omega)⟩
theorem cd_xagainst {post : Int32 → SX → Prop} {u : SX} {x : Int32} {c : Nat} (wf : cd_W n kd lf rt) (hu : cd_XR n kd lf rt u) (hc : c < n) (h : ∀ u' r, cd_XR n kd lf rt u' → cd_AR n kd lf rt (cd_m n x) c r → post r u') : wpX_against post u x (nI c) := by
  have hu0 := hu
  have hn := wf.1
  have h2n := cd_2n hn
  have hm := cd_m_lt n x
  obtain ⟨kn, fd, hd, w, hu, hI, rfl⟩ := hu
  unfold wpX_against
  dsimp only
  refine cd_xmi hn hc (br_t rfl (cd_find wf hu0 (fun kn fd hd w hu I => ?_)))
  dsimp only
  have hf := cd_XI_fd I
  exact cd_xev hn (nm_r (cd_mN hn x) ⟨fd + 1, cd_aga (by omega) (by omega) (by omega) (fun r A => h _ r ⟨kn, fd, hd, w, hu, fun _ => I, rfl⟩ (cd_AgR I A)) fd 0 (-4) (by omega) (Or.inl ⟨rfl, fun i hi => by omega⟩)⟩)
theorem cd_xagainst_o {post : Int32 → SX → Prop} {u : SX} {x y : Int32} (hu : cd_XR n kd lf rt u) (hy : y < 0 ∨ nI n ≤ y) (h : post (-1) u) : wpX_against post u x y := by
  obtain ⟨kn, fd, hd, w, hu, hI, rfl⟩ := hu
  unfold wpX_against
  dsimp only
  exact cd_xmo hy (br_f cd_10 h)
theorem cd_yagainst {post : Int32 → SY → Prop} {v : SY} {x : Int32} {c : Nat} (wf : cd_W n kd lf rt) (hv : cd_YR n kd lf rt v) (hc : c < n) (h : ∀ v' r, cd_YR n kd lf rt v' → cd_AR n kd lf rt (cd_m n x) c r → post r v') : wpY_against post v x (nI c) := by
  have hv0 := hv
  have hn := wf.1
  have hm := cd_m_lt n x
  obtain ⟨yn, f, tr, hI, rfl⟩ := hv
  unfold wpY_against
  dsimp only
  refine cd_ymi hn hc (br_f cd_10 (cd_taken wf hv0 (fun yn f tr I => ?_)))
  dsimp only
  exact ⟨2 ^ n - cd_m n x + 1, cd_yag wf hm hc I (fun r A => h _ r ⟨yn, f, tr, fun _ => I, rfl⟩ A) (2 ^ n - cd_m n x) (cd_m n x) (by omega) (fun z hz _ sz => by have := cd_s_le sz; omega)⟩
theorem cd_yagainst_o {post : Int32 → SY → Prop} {v : SY} {x y : Int32} (hv : cd_YR n kd lf rt v) (hy : y < 0 ∨ nI n ≤ y) (h : post (-1) v) : wpY_against post v x y := by
  obtain ⟨yn, f, tr, hI, rfl⟩ := hv
  unfold wpY_against
  dsimp only
  exact cd_ymo hy (br_t rfl h)
theorem cd_xclosed {post : Int32 → SX → Prop} {u : SX} (wf : cd_W n kd lf rt) (hu : cd_XR n kd lf rt u) (h : ∀ u', cd_XR n kd lf rt u' → post (nI (cd_n (cd_Pc n kd lf rt) (2 ^ n))) u') : wpX_closedSets post u := by
  have hu0 := hu
  obtain ⟨kn, fd, hd, w, hu, hI, rfl⟩ := hu
  unfold wpX_closedSets
  dsimp only
  refine cd_find wf hu0 (fun kn fd hd w hu I => ?_)
  dsimp only
  exact ⟨2 ^ n + 1, cd_cls wf.1 I (h _ ⟨kn, fd, hd, w, hu, fun _ => I, rfl⟩) (2 ^ n) 0 (by omega)⟩
theorem cd_yclosed {post : Int32 → SY → Prop} {v : SY} (wf : cd_W n kd lf rt) (hv : cd_YR n kd lf rt v) (h : ∀ v', cd_YR n kd lf rt v' → post (nI (cd_n (cd_Pc n kd lf rt) (2 ^ n))) v') : wpY_closedSets post v := by
  have hv0 := hv
  obtain ⟨yn, f, tr, hI, rfl⟩ := hv
  unfold wpY_closedSets
  dsimp only
  refine cd_work wf hv0 (fun yn f tr I => ?_)
  dsimp only
  exact ⟨2 ^ n + 1, cd_ycl wf I (h _ ⟨yn, f, tr, fun _ => I, rfl⟩) (2 ^ n) 0 (by omega)⟩
end
end
section
theorem i_vc0 : wpX_init (fun u => wpY_init (fun v => i_Rel 0 u v)) :=
  ⟨0, fun _ => 0, fun _ => 0, fun _ => 0, ⟨by decide, fun i hi => absurd hi (Nat.not_lt_zero i)⟩, ⟨0, 0, 0, fun _ => 0, fun _ => 0, fun z => absurd rfl z, rfl⟩, ⟨0, fun _ => 0, fun _ => 0, fun z => absurd rfl z, rfl⟩⟩
theorem cd_ix (x : Int32) {n : Nat} (hn : n ≤ 11) : (x < 0 ∨ nI n ≤ x) ∨ ∃ j : Nat, j < n ∧ x = nI j := by
  rcases pk_ix x (n := n) (by omega) with h | h | h
  · exact Or.inl (Or.inl h)
  · exact Or.inl (Or.inr h)
  · exact Or.inr h
theorem i_vc_atom {k : Nat} {u : SX} {v : SY} (I : i_Rel k u v) (hk : k + 4 ≤ 2048) (v1 : Int32) : wpX_atom (fun r u' => wpY_atom (fun r' v' => r' = r ∧ i_Rel (k + 4) u' v') v v1) u v1 := by
  have I2 : i_Rel (k + 4) u v := i_up I
  obtain ⟨n, kd, lf, rt, wf, hu, hv⟩ := I
  obtain ⟨u1, u2, u3, u4, u5, u6, u7, u8, u9⟩ := u
  obtain ⟨w1, w2, w3, w4, w5, w6, w7⟩ := v
  by_cases h0 : v1 < 0
  · exact br_t h0 (br_t h0 ⟨rfl, I2⟩)
  · obtain ⟨a, ha, rfl⟩ := nI_of h0
    by_cases h4 : a < 4
    · obtain ⟨r, u', v', R, hX, hY⟩ := cd_put (K := k + 4) (k := 3) (a := a) (b := 0) wf hu hv (by decide) (by omega) (by decide) (fun z => absurd z (by decide))
      obtain ⟨u1', u2', u3', u4', u5', u6', u7', u8', u9'⟩ := u'
      obtain ⟨w1', w2', w3', w4', w5', w6', w7'⟩ := v'
      exact br_f h0 (br_t (nI_lt (b := 4) h4 (by decide)) (hX _ (br_f h0 (br_t (nI_le (b := 3) (by omega) (by decide)) (hY _ ⟨rfl, R⟩)))))
    · exact br_f h0 (br_f (nI_nlt (b := 4) (by omega) ha) (br_f h0 (br_f (nI_ge (a := 3) (by omega) ha) ⟨rfl, I2⟩)))
theorem i_vc_falsum {k : Nat} {u : SX} {v : SY} (I : i_Rel k u v) (hk : k + 4 ≤ 2048) : wpX_falsum (fun r u' => wpY_falsum (fun r' v' => r' = r ∧ i_Rel (k + 4) u' v') v) u := by
  obtain ⟨n, kd, lf, rt, wf, hu, hv⟩ := I
  obtain ⟨u1, u2, u3, u4, u5, u6, u7, u8, u9⟩ := u
  obtain ⟨w1, w2, w3, w4, w5, w6, w7⟩ := v
  obtain ⟨r, u', v', R, hX, hY⟩ := cd_put (K := k + 4) (k := 4) (a := 0) (b := 0) wf hu hv (by decide) (by decide) (by decide) (fun z => absurd z (by decide))
  obtain ⟨u1', u2', u3', u4', u5', u6', u7', u8', u9'⟩ := u'
  obtain ⟨w1', w2', w3', w4', w5', w6', w7'⟩ := v'
  unfold wpX_falsum wpY_falsum
  dsimp only
  refine hX _ ?_
  dsimp only
  exact hY _ ⟨rfl, R⟩
theorem i_vc_join {k : Nat} {u : SX} {v : SY} (I : i_Rel k u v) (hk : k + 4 ≤ 2048) (v1 : Int32) (v2 : Int32) (v3 : Int32) : wpX_join (fun r u' => wpY_join (fun r' v' => r' = r ∧ i_Rel (k + 4) u' v') v v1 v2 v3) u v1 v2 v3 := by
  have I2 : i_Rel (k + 4) u v := i_up I
  obtain ⟨n, kd, lf, rt, wf, hu, hv⟩ := I
  have hu0 := hu
  have hv0 := hv
  have hn := wf.1
  obtain ⟨kn, fd, hd, w, hu, hI, rfl⟩ := hu
  obtain ⟨yn, f, tr, hJ, rfl⟩ := hv
  by_cases h0 : v1 < 0
  · exact br_t h0 (br_t h0 ⟨rfl, I2⟩)
  · obtain ⟨o, ho, rfl⟩ := nI_of h0
    by_cases h2 : o ≤ 2
    · have h2' : ¬ (2 : Int32) < nI o := nI_nlt (a := 2) h2 (by decide)
      refine br_f h0 (br_f h2' ?_)
      rcases cd_ix v2 hn with z2 | ⟨a, ha, rfl⟩
      · exact cd_xmo z2 (br_f cd_10 (br_f h0 (br_f h2' (cd_ymo z2 (br_t rfl ⟨rfl, I2⟩)))))
      · rcases cd_ix v3 hn with z3 | ⟨b, hb, rfl⟩
        · exact cd_xmi hn ha (br_t rfl (cd_xmo z3 (br_f cd_10 (br_f h0 (br_f h2' (cd_ymi hn ha (br_f cd_10 (cd_ymo z3 (br_t rfl ⟨rfl, I2⟩)))))))))
        · obtain ⟨r, u', v', R, hX, hY⟩ := cd_put (K := k + 4) (k := o) (a := a) (b := b) wf hu0 hv0 (by omega) (by omega) (by omega) (fun _ => ⟨ha, hb⟩)
          obtain ⟨u1', u2', u3', u4', u5', u6', u7', u8', u9'⟩ := u'
          obtain ⟨w1', w2', w3', w4', w5', w6', w7'⟩ := v'
          exact cd_xmi hn ha (br_t rfl (cd_xmi hn hb (br_t rfl (hX _ (br_f h0 (br_f h2' (cd_ymi hn ha (br_f cd_10 (cd_ymi hn hb (br_f cd_10 (hY _ ⟨rfl, R⟩)))))))))))
    · have h2' : (2 : Int32) < nI o := nI_lt (a := 2) (by omega) ho
      exact br_f h0 (br_t h2' (br_f h0 (br_t h2' ⟨rfl, I2⟩)))
theorem i_vc_drop {k : Nat} {u : SX} {v : SY} (I : i_Rel k u v) (hk : k + 4 ≤ 2048) : wpX_drop (fun r u' => wpY_drop (fun r' v' => r' = r ∧ i_Rel (k + 4) u' v') v) u := by
  have I2 : i_Rel (k + 4) u v := i_up I
  obtain ⟨n, kd, lf, rt, wf, hu, hv⟩ := I
  have hn := wf.1
  obtain ⟨kn, fd, hd, w, hu, hI, rfl⟩ := hu
  obtain ⟨yn, f, tr, hJ, rfl⟩ := hv
  rcases Nat.eq_zero_or_pos n with e | e
  · subst e
    exact br_t nI_0 (br_t nI_0 ⟨rfl, I2⟩)
  · obtain ⟨m, rfl⟩ : ∃ m, n = m + 1 := ⟨n - 1, by omega⟩
    have h0 : ¬ nI (m + 1) = 0 := nI_ne0 e (by omega)
    refine br_f h0 (nm_r (nI_pred m) (br_f h0 (nm_r (nI_pred m) ⟨rfl, m, kd, lf, rt, ⟨by omega, fun i hi => wf.2 i (by omega)⟩, ⟨0, fd, hd, w, hu, fun z => absurd rfl z, rfl⟩, ⟨0, f, tr, fun z => absurd rfl z, rfl⟩⟩)))
theorem i_vc_size {k : Nat} {u : SX} {v : SY} (I : i_Rel k u v) (hk : k + 4 ≤ 2048) : wpX_size (fun r => wpY_size (fun r' => r' = r ∧ i_Rel (k + 4) u v) v) u := by
  have I2 : i_Rel (k + 4) u v := i_up I
  obtain ⟨n, kd, lf, rt, wf, hu, hv⟩ := I
  obtain ⟨kn, fd, hd, w, hu, hI, rfl⟩ := hu
  obtain ⟨yn, f, tr, hJ, rfl⟩ := hv
  unfold wpX_size wpY_size
  exact ⟨rfl, I2⟩
theorem i_vc_follows {k : Nat} {u : SX} {v : SY} (I : i_Rel k u v) (hk : k + 4 ≤ 2048) (v1 : Int32) (v2 : Int32) : wpX_follows (fun r u' => wpY_follows (fun r' v' => r' = r ∧ i_Rel (k + 4) u' v') v v1 v2) u v1 v2 := by
  obtain ⟨n, kd, lf, rt, wf, hu, hv⟩ := I
  rcases cd_ix v2 wf.1 with z | ⟨c, hc, rfl⟩
  · exact cd_xfollows_o hu z (cd_yfollows_o hv z ⟨rfl, n, kd, lf, rt, wf, hu, hv⟩)
  · exact cd_xfollows wf hu hc (fun u' hu' => cd_yfollows wf hv hc (fun v' hv' => ⟨rfl, n, kd, lf, rt, wf, hu', hv'⟩))
theorem i_vc_all {k : Nat} {u : SX} {v : SY} (I : i_Rel k u v) (hk : k + 4 ≤ 2048) (v1 : Int32) : wpX_all (fun r u' => wpY_all (fun r' v' => r' = r ∧ i_Rel (k + 4) u' v') v v1) u v1 := by
  obtain ⟨n, kd, lf, rt, wf, hu, hv⟩ := I
  refine cd_xall wf hu (fun u' r hu' hr br => cd_yall wf hv (fun v' q hv' hq bq => ⟨?_, n, kd, lf, rt, wf, hu', hv'⟩))
  have e : q = r := cd_s_as (fun i z => (br i (cd_lt.mp hq i z)).mpr ((bq i (cd_lt.mp hq i z)).mp z)) (fun i z => (bq i (cd_lt.mp hr i z)).mpr ((br i (cd_lt.mp hr i z)).mp z))
  rw [e]
theorem i_vc_classically {k : Nat} {u : SX} {v : SY} (I : i_Rel k u v) (hk : k + 4 ≤ 2048) (v1 : Int32) (v2 : Int32) : wpX_classically (fun r => wpY_classically (fun r' v' => r' = r ∧ i_Rel (k + 4) u v') v v1 v2) u v1 v2 := by
  obtain ⟨n, kd, lf, rt, wf, hu, hv⟩ := I
  rcases cd_ix v2 wf.1 with z | ⟨c, hc, rfl⟩
  · exact cd_xclass_o hu z (cd_yclass_o hv z ⟨rfl, n, kd, lf, rt, wf, hu, hv⟩)
  · exact cd_xclass wf hu hc (cd_yclass wf hv hc (fun v' hv' => ⟨rfl, n, kd, lf, rt, wf, hu, hv'⟩))
theorem i_vc_alike {k : Nat} {u : SX} {v : SY} (I : i_Rel k u v) (hk : k + 4 ≤ 2048) (v1 : Int32) (v2 : Int32) : wpX_alike (fun r u' => wpY_alike (fun r' v' => r' = r ∧ i_Rel (k + 4) u' v') v v1 v2) u v1 v2 := by
  obtain ⟨n, kd, lf, rt, wf, hu, hv⟩ := I
  rcases cd_ix v1 wf.1 with z | ⟨a, ha, rfl⟩
  · exact cd_xalike_o1 hu z (cd_yalike_o1 hv z ⟨rfl, n, kd, lf, rt, wf, hu, hv⟩)
  · rcases cd_ix v2 wf.1 with z | ⟨b, hb, rfl⟩
    · exact cd_xalike_o2 wf.1 hu ha z (cd_yalike_o2 wf.1 hv ha z ⟨rfl, n, kd, lf, rt, wf, hu, hv⟩)
    · exact cd_xalike wf hu ha hb (fun u' hu' => cd_yalike wf hv ha hb (fun v' hv' => ⟨rfl, n, kd, lf, rt, wf, hu', hv'⟩))
theorem i_vc_enough {k : Nat} {u : SX} {v : SY} (I : i_Rel k u v) (hk : k + 4 ≤ 2048) (v1 : Int32) (v2 : Int32) : wpX_enough (fun r u' => wpY_enough (fun r' v' => r' = r ∧ i_Rel (k + 4) u' v') v v1 v2) u v1 v2 := by
  obtain ⟨n, kd, lf, rt, wf, hu, hv⟩ := I
  rcases cd_ix v2 wf.1 with z | ⟨c, hc, rfl⟩
  · exact cd_xenough_o hu z (cd_yenough_o hv z ⟨rfl, n, kd, lf, rt, wf, hu, hv⟩)
  · exact cd_xenough wf hu hc (fun u' r hu' E => cd_yenough wf hv hc (fun v' q hv' E2 => ⟨cd_ER_u E2 E, n, kd, lf, rt, wf, hu', hv'⟩))
theorem i_vc_saturated {k : Nat} {u : SX} {v : SY} (I : i_Rel k u v) (hk : k + 4 ≤ 2048) (v1 : Int32) : wpX_saturated (fun r u' => wpY_saturated (fun r' v' => r' = r ∧ i_Rel (k + 4) u' v') v v1) u v1 := by
  obtain ⟨n, kd, lf, rt, wf, hu, hv⟩ := I
  exact cd_xsat wf hu (fun u' hu' => cd_ysat wf hv (fun v' hv' => ⟨rfl, n, kd, lf, rt, wf, hu', hv'⟩))
theorem i_vc_worlds {k : Nat} {u : SX} {v : SY} (I : i_Rel k u v) (hk : k + 4 ≤ 2048) : wpX_worlds (fun r u' => wpY_worlds (fun r' v' => r' = r ∧ i_Rel (k + 4) u' v') v) u := by
  obtain ⟨n, kd, lf, rt, wf, hu, hv⟩ := I
  exact cd_xworlds wf hu (fun u' hu' => cd_yworlds wf hv (fun v' hv' => ⟨rfl, n, kd, lf, rt, wf, hu', hv'⟩))
theorem i_vc_against {k : Nat} {u : SX} {v : SY} (I : i_Rel k u v) (hk : k + 4 ≤ 2048) (v1 : Int32) (v2 : Int32) : wpX_against (fun r u' => wpY_against (fun r' v' => r' = r ∧ i_Rel (k + 4) u' v') v v1 v2) u v1 v2 := by
  obtain ⟨n, kd, lf, rt, wf, hu, hv⟩ := I
  rcases cd_ix v2 wf.1 with z | ⟨c, hc, rfl⟩
  · exact cd_xagainst_o hu z (cd_yagainst_o hv z ⟨rfl, n, kd, lf, rt, wf, hu, hv⟩)
  · exact cd_xagainst wf hu hc (fun u' r hu' E => cd_yagainst wf hv hc (fun v' q hv' E2 => ⟨cd_AR_u wf.1 E2 E, n, kd, lf, rt, wf, hu', hv'⟩))
theorem i_vc_closedSets {k : Nat} {u : SX} {v : SY} (I : i_Rel k u v) (hk : k + 4 ≤ 2048) : wpX_closedSets (fun r u' => wpY_closedSets (fun r' v' => r' = r ∧ i_Rel (k + 4) u' v') v) u := by
  obtain ⟨n, kd, lf, rt, wf, hu, hv⟩ := I
  exact cd_xclosed wf hu (fun u' hu' => cd_yclosed wf hv (fun v' hv' => ⟨rfl, n, kd, lf, rt, wf, hu', hv'⟩))
end
