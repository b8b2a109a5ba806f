section
/-! rows taken from kit/rows (starting text) -/
theorem pk_us {f : Nat → Int32} {k : Nat} {x : Int32} : upd f k x k = x := if_pos rfl
theorem pk_un {f : Nat → Int32} {k j : Nat} {x : Int32} (h : j ≠ k) : upd f k x j = f j := if_neg h
theorem pk_sub {a b : Nat} (h : b ≤ a) : nI a - nI b = nI (a - b) := by
  obtain ⟨c, rfl⟩ : ∃ c, a = c + b := ⟨a - b, by omega⟩
  rw [← nI_add, Int32.add_sub_cancel, Nat.add_sub_cancel]
theorem pk_m1 (n : Nat) : nI (n + 1) + (-1) = nI n := by
  rw [← nI_1, Int32.add_assoc, show (1 : Int32) + (-1) = 0 from rfl, Int32.add_zero]
theorem pk_mul (a b : Nat) : nI a * nI b = nI (a * b) := (Int32.ofNat_mul a b).symm
theorem pk_sub_toInt {a b : Nat} (ha : a < 2 ^ 30) (hb : b < 2 ^ 30) : (nI a - nI b).toInt = (a : Int) - b := by
  rw [Int32.toInt_sub, nI_toInt (by omega), nI_toInt (by omega)]
  exact Int.bmod_eq_of_le (by omega) (by omega)
theorem pk_ix (x : Int32) {n : Nat} (hn : n < 2 ^ 31) : x < 0 ∨ nI n ≤ x ∨ ∃ j : Nat, j < n ∧ x = nI j := by
  by_cases h : x < 0
  · exact Or.inl h
  · obtain ⟨j, hj, rfl⟩ := nI_of h
    by_cases h2 : j < n
    · exact Or.inr (Or.inr ⟨j, h2, rfl⟩)
    · exact Or.inr (Or.inl (nI_le (by omega) hj))
theorem pk_le {x y : Int32} {A B : Prop} (a b : Nat) (f : a ≤ b → A) (g : b < a → B) (hx : x = nI a := by rfl) (hy : y = nI b := by rfl) (ha : a < 2 ^ 31 := by omega) (hb : b < 2 ^ 31 := by omega) : (x ≤ y → A) ∧ (¬ x ≤ y → B) := by
  subst hx hy
  rw [nI_leI ha hb]
  exact ⟨f, fun z => g (by omega)⟩
theorem pk_lt {x y : Int32} {A B : Prop} (a b : Nat) (f : a < b → A) (g : b ≤ a → B) (hx : x = nI a := by rfl) (hy : y = nI b := by rfl) (ha : a < 2 ^ 31 := by omega) (hb : b < 2 ^ 31 := by omega) : (x < y → A) ∧ (¬ x < y → B) := by
  subst hx hy
  rw [nI_ltI ha hb]
  exact ⟨f, fun z => g (by omega)⟩
theorem pk_eq {x y : Int32} {A B : Prop} (a b : Nat) (f : a = b → A) (g : a ≠ b → B) (hx : x = nI a := by rfl) (hy : y = nI b := by rfl) (ha : a < 2 ^ 31 := by omega) (hb : b < 2 ^ 31 := by omega) : (x = y → A) ∧ (¬ x = y → B) := by
  subst hx hy
  rw [nI_eq ha hb]
  exact ⟨f, g⟩
theorem pk_in {x : Int32} (n N : Nat) (h : n < N) (hx : x = nI n := by rfl) (hN : N < 2 ^ 31 := by omega) : vp_in x N := by
  subst hx
  exact vp_in_nI h hN
theorem pk_cl {x : Int32} (n : Nat) (hx : x = nI n := by rfl) (h : n < 2 ^ 31 := by omega) : x.toNatClampNeg = n := by
  subst hx
  exact nI_clamp h
theorem pk_tn {n : Nat} (h : n < 2 ^ 32) : (nI n).toBitVec.toNat = n := Nat.mod_eq_of_lt h
theorem pk_and (x : Int32) {m : Int32} (k : Nat) (hm : m.toBitVec.toNat = 2 ^ k - 1) : x &&& m = nI (x.toBitVec.toNat % 2 ^ k) := by
  apply Int32.toBitVec_inj.mp
  apply BitVec.eq_of_toNat_eq
  rw [Int32.toBitVec_and, BitVec.toNat_and, hm, Nat.and_two_pow_sub_one_eq_mod]
  show _ = (BitVec.ofNat 32 _).toNat
  rw [BitVec.toNat_ofNat]
  exact (Nat.mod_eq_of_lt (Nat.lt_of_le_of_lt (Nat.mod_le _ _) x.toBitVec.isLt)).symm
theorem pk_andN {n : Nat} (h : n < 2 ^ 32) {m : Int32} (k : Nat) (hm : m.toBitVec.toNat = 2 ^ k - 1) : nI n &&& m = nI (n % 2 ^ k) := by
  rw [pk_and _ k hm, pk_tn h]
end
section
/-! the pure side: check values, entries applied, sections applied, sums, the medium -/
/-- the check value of a sector's content -/
def il_ck (s v : Int32) : Int32 := ((v ^^^ 1431655765) * 1540483477) + (s * 668265263)
theorem il_xor {x b : Int32} (h : x ^^^ b = x) : b = 0 := by
  have h1 : x ^^^ (x ^^^ b) = x ^^^ x := congrArg (fun z : Int32 => x ^^^ z) h
  rw [← Int32.xor_assoc, Int32.xor_self, Int32.zero_xor] at h1
  exact h1
theorem il_ck_inj {s v w : Int32} (h : il_ck s v = il_ck s w) : v = w := by
  have e : ∀ x : Int32, x * 1540483477 * 3852147133 = x := fun x => by
    rw [Int32.mul_assoc, show (1540483477 : Int32) * 3852147133 = 1 from by decide, Int32.mul_one]
  have h1 : (v ^^^ 1431655765) * 1540483477 = (w ^^^ 1431655765) * 1540483477 := by
    have h0 := congrArg (fun z : Int32 => z - s * 668265263) h
    dsimp only [il_ck] at h0
    rw [Int32.add_sub_cancel, Int32.add_sub_cancel] at h0
    exact h0
  have h2 : (v ^^^ 1431655765) * 1540483477 * 3852147133 = (w ^^^ 1431655765) * 1540483477 * 3852147133 := congrArg (fun z : Int32 => z * 3852147133) h1
  rw [e, e] at h2
  have h4 : v ^^^ 1431655765 ^^^ 1431655765 = w ^^^ 1431655765 ^^^ 1431655765 := congrArg (fun z : Int32 => z ^^^ 1431655765) h2
  rw [Int32.xor_assoc, Int32.xor_assoc, Int32.xor_self, Int32.xor_zero, Int32.xor_zero] at h4
  exact h4
/-- n entries from place i on, each written into m at its sector -/
def il_ap (se sv : Nat → Int32) (i : Nat) : Nat → (Nat → Int32) → (Nat → Int32)
  | 0, m => m
  | n + 1, m => upd (il_ap se sv i n m) (se (i + n)).toNatClampNeg (sv (i + n))
theorem il_ap_congr {se sv se' sv' m : Nat → Int32} {i i' : Nat} : ∀ n, (∀ a, a < n → se (i + a) = se' (i' + a) ∧ sv (i + a) = sv' (i' + a)) → il_ap se sv i n m = il_ap se' sv' i' n m
  | 0, _ => rfl
  | n + 1, h => by
    show upd _ _ _ = upd _ _ _
    rw [il_ap_congr n (fun a ha => h a (Nat.lt_succ_of_lt ha)), (h n (Nat.lt_succ_self n)).1, (h n (Nat.lt_succ_self n)).2]
theorem il_ap_add {se sv m : Nat → Int32} {i a : Nat} : ∀ b, il_ap se sv i (a + b) m = il_ap se sv (i + a) b (il_ap se sv i a m)
  | 0 => rfl
  | b + 1 => by
    show upd (il_ap se sv i (a + b) m) (se (i + (a + b))).toNatClampNeg (sv (i + (a + b))) = upd _ (se (i + a + b)).toNatClampNeg (sv (i + a + b))
    rw [il_ap_add b, Nat.add_assoc]
/-- d sections from number k on, applied in order -/
def il_aj (sc se sv : Nat → Int32) (k : Nat) : Nat → (Nat → Int32) → (Nat → Int32)
  | 0, m => m
  | d + 1, m => il_ap se sv (4 * ((k + d) % 8)) (sc ((k + d) % 8)).toNatClampNeg (il_aj sc se sv k d m)
/-- n places from p on written from b -/
def il_cp (a : Nat → Int32) (p : Nat) (b : Nat → Int32) : Nat → (Nat → Int32)
  | 0 => a
  | n + 1 => upd (il_cp a p b n) (p + n) (b n)
theorem il_cp_in {a b : Nat → Int32} {p : Nat} : ∀ n i, i < n → il_cp a p b n (p + i) = b i
  | 0, i, h => absurd h (Nat.not_lt_zero i)
  | n + 1, i, h => by
    show upd _ _ _ _ = _
    by_cases e : i = n
    · subst e; exact pk_us
    · rw [pk_un (by omega)]; exact il_cp_in n i (by omega)
theorem il_cp_out {a b : Nat → Int32} {p : Nat} : ∀ n q, (q < p ∨ p + n ≤ q) → il_cp a p b n q = a q
  | 0, _, _ => rfl
  | n + 1, q, h => by
    show upd _ _ _ _ = _
    rw [pk_un (by omega)]; exact il_cp_out n q (by omega)
/-- the sum over n entries from place i on, begun with x -/
def il_sm (se sv sk : Nat → Int32) (i : Nat) (x : Int32) : Nat → Int32
  | 0 => x
  | n + 1 => ((il_sm se sv sk i x n * 31 + se (i + n)) * 31 + sv (i + n)) * 31 + sk (i + n)
def il_sum (sn sc se sv sk : Nat → Int32) (j : Nat) : Int32 := il_sm se sv sk (4 * j) (sn j * 31 + sc j) (sc j).toNatClampNeg
theorem il_sm_congr {se sv sk se' sv' sk' : Nat → Int32} {i : Nat} {x : Int32} : ∀ n, (∀ a, a < n → se' (i + a) = se (i + a) ∧ sv' (i + a) = sv (i + a) ∧ sk' (i + a) = sk (i + a)) → il_sm se' sv' sk' i x n = il_sm se sv sk i x n
  | 0, _ => rfl
  | n + 1, h => by
    have hn := h n (Nat.lt_succ_self n)
    show ((il_sm se' sv' sk' i x n * 31 + se' (i + n)) * 31 + sv' (i + n)) * 31 + sk' (i + n) = ((il_sm se sv sk i x n * 31 + se (i + n)) * 31 + sv (i + n)) * 31 + sk (i + n)
    rw [il_sm_congr n (fun a ha => h a (Nat.lt_succ_of_lt ha)), hn.1, hn.2.1, hn.2.2]
/-- a slot with one to four right entries -/
def il_ok (sc se sv sk : Nat → Int32) (j : Nat) : Prop := ∃ c, 1 ≤ c ∧ c ≤ 4 ∧ sc j = nI c ∧ ∀ a, a < c → (∃ s, s < 12 ∧ se (4 * j + a) = nI s) ∧ sk (4 * j + a) = il_ck (se (4 * j + a)) (sv (4 * j + a))
/-- two media agree at slot i -/
def il_ag (sn sc se sv sk sn' sc' se' sv' sk' : Nat → Int32) (i : Nat) : Prop := sn' i = sn i ∧ sc' i = sc i ∧ ∀ a, a < 4 → se' (4 * i + a) = se (4 * i + a) ∧ sv' (4 * i + a) = sv (4 * i + a) ∧ sk' (4 * i + a) = sk (4 * i + a)
section
variable {sn sc se sv sk sn' sc' se' sv' sk' : Nat → Int32} {i : Nat}
theorem il_ag_ok (h : il_ag sn sc se sv sk sn' sc' se' sv' sk' i) (o : il_ok sc se sv sk i) : il_ok sc' se' sv' sk' i := by
  obtain ⟨c, h1, h4, hc, he⟩ := o
  obtain ⟨_, g2, g3⟩ := h
  refine ⟨c, h1, h4, g2.trans hc, fun a ha => ?_⟩
  obtain ⟨e1, e2, e3⟩ := g3 a (by omega)
  rw [e1, e2, e3]
  exact he a ha
theorem il_ag_sum (h : il_ag sn sc se sv sk sn' sc' se' sv' sk' i) (o : il_ok sc se sv sk i) : il_sum sn' sc' se' sv' sk' i = il_sum sn sc se sv sk i := by
  obtain ⟨c, h1, h4, hc, he⟩ := o
  obtain ⟨g1, g2, g3⟩ := h
  unfold il_sum
  rw [g1, g2, hc, nI_clamp (by omega)]
  exact il_sm_congr c fun a ha => g3 a (by omega)
theorem il_ag_aj {H : Nat} {m m2 : Nat → Int32} : ∀ d, (∀ K, H ≤ K → K < H + d → il_ag sn sc se sv sk sn' sc' se' sv' sk' (K % 8) ∧ il_ok sc se sv sk (K % 8)) → il_aj sc' se' sv' H d m = il_aj sc se sv H d m ∧ il_aj sc' se' sk' H d m2 = il_aj sc se sk H d m2
  | 0, _ => ⟨rfl, rfl⟩
  | d + 1, h => by
    have hd := il_ag_aj (m := m) (m2 := m2) d (fun K h1 h2 => h K h1 (by omega))
    obtain ⟨⟨_, g2, g3⟩, c, h1, h4, hc, _⟩ := h (H + d) (by omega) (by omega)
    constructor
    · show il_ap se' sv' (4 * ((H + d) % 8)) (sc' ((H + d) % 8)).toNatClampNeg (il_aj sc' se' sv' H d m) = il_ap se sv (4 * ((H + d) % 8)) (sc ((H + d) % 8)).toNatClampNeg (il_aj sc se sv H d m)
      rw [hd.1, g2, hc, nI_clamp (by omega)]
      exact il_ap_congr c fun a ha => ⟨(g3 a (by omega)).1, (g3 a (by omega)).2.1⟩
    · show il_ap se' sk' (4 * ((H + d) % 8)) (sc' ((H + d) % 8)).toNatClampNeg (il_aj sc' se' sk' H d m2) = il_ap se sk (4 * ((H + d) % 8)) (sc ((H + d) % 8)).toNatClampNeg (il_aj sc se sk H d m2)
      rw [hd.2, g2, hc, nI_clamp (by omega)]
      exact il_ap_congr c fun a ha => ⟨(g3 a (by omega)).1, (g3 a (by omega)).2.2⟩
end
/-- home and check, as they stand after a replay, against kept and damaged -/
def il_KD (hh cc kp dm : Nat → Int32) : Prop := ∀ s, s < 12 → (dm s = 0 ∧ hh s = kp s ∧ cc s = il_ck (nI s) (kp s)) ∨ (dm s = 1 ∧ cc s ≠ il_ck (nI s) (hh s))
theorem il_KD_w {hh cc kp dm : Nat → Int32} (h : il_KD hh cc kp dm) (s : Nat) (v : Int32) : il_KD (upd hh s v) (upd cc s (il_ck (nI s) v)) (upd kp s v) (upd dm s 0) := by
  intro q hq
  by_cases e : q = s
  · subst e; exact Or.inl ⟨pk_us, by rw [pk_us, pk_us], by rw [pk_us, pk_us]⟩
  · rw [pk_un e, pk_un e, pk_un e, pk_un e]; exact h q hq
theorem il_KD_ap {hh cc kp dm se sv sk : Nat → Int32} {i : Nat} (h : il_KD hh cc kp dm) : ∀ n, (∀ a, a < n → (∃ s, s < 12 ∧ se (i + a) = nI s) ∧ sk (i + a) = il_ck (se (i + a)) (sv (i + a))) → il_KD (il_ap se sv i n hh) (il_ap se sk i n cc) (il_ap se sv i n kp) (il_ap se (fun _ => 0) i n dm)
  | 0, _ => h
  | n + 1, he => by
    have ih := il_KD_ap h n (fun a ha => he a (Nat.lt_succ_of_lt ha))
    obtain ⟨⟨s, hs, es⟩, ek⟩ := he n (Nat.lt_succ_self n)
    have w := il_KD_w ih s (sv (i + n))
    show il_KD (upd _ (se (i + n)).toNatClampNeg (sv (i + n))) (upd _ (se (i + n)).toNatClampNeg (sk (i + n))) (upd _ (se (i + n)).toNatClampNeg (sv (i + n))) (upd _ (se (i + n)).toNatClampNeg 0)
    rw [ek, es, nI_clamp (by omega)]
    exact w
/-- the medium of the component against the reference's kept and damaged -/
def il_M (H N : Nat) (hh cc sn sc sm se sv sk kp dm : Nat → Int32) : Prop :=
  H ≤ N ∧ N ≤ H + 7 ∧ (∀ K, H ≤ K → K < N → sn (K % 8) = nI K ∧ il_ok sc se sv sk (K % 8) ∧ sm (K % 8) = il_sum sn sc se sv sk (K % 8)) ∧ (∀ j, j < 8 → (sn j).toInt ≤ (N : Int)) ∧ (sn (N % 8) = nI N → sm (N % 8) ≠ il_sum sn sc se sv sk (N % 8)) ∧ il_KD (il_aj sc se sv H (N - H) hh) (il_aj sc se sk H (N - H) cc) kp dm
/-- section N filled with n writes from place f on of the pending ones -/
def il_F (N n f : Nat) (sn sc se sv sk ws wv sn' sc' se' sv' sk' : Nat → Int32) : Prop :=
  (∀ i, i < 8 → i ≠ N % 8 → il_ag sn sc se sv sk sn' sc' se' sv' sk' i) ∧ sn' (N % 8) = nI N ∧ sc' (N % 8) = nI n ∧ ∀ a, a < n → se' (4 * (N % 8) + a) = ws (f + a) ∧ sv' (4 * (N % 8) + a) = wv (f + a) ∧ sk' (4 * (N % 8) + a) = il_ck (ws (f + a)) (wv (f + a))
section
variable {H N n f : Nat} {hh cc sn sc sm se sv sk ws wv sn' sc' se' sv' sk' kp dm : Nat → Int32}
theorem il_F_cp (hn : n ≤ 4) : il_F N n f sn sc se sv sk ws wv (upd sn (N % 8) (nI N)) (upd sc (N % 8) (nI n)) (il_cp se (4 * (N % 8)) (fun a => ws (f + a)) n) (il_cp sv (4 * (N % 8)) (fun a => wv (f + a)) n) (il_cp sk (4 * (N % 8)) (fun a => il_ck (ws (f + a)) (wv (f + a))) n) := by
  refine ⟨fun i _ hi => ⟨pk_un hi, pk_un hi, fun a ha => ?_⟩, pk_us, pk_us, fun a ha => ⟨il_cp_in n a ha, il_cp_in n a ha, il_cp_in n a ha⟩⟩
  have o : 4 * i + a < 4 * (N % 8) ∨ 4 * (N % 8) + n ≤ 4 * i + a := by omega
  exact ⟨il_cp_out n _ o, il_cp_out n _ o, il_cp_out n _ o⟩
theorem il_M_home (h : il_M H N hh cc sn sc sm se sv sk kp dm) : il_M N N (il_aj sc se sv H (N - H) hh) (il_aj sc se sk H (N - H) cc) sn sc sm se sv sk kp dm := by
  obtain ⟨_, _, _, h4, h5, h6⟩ := h
  refine ⟨Nat.le_refl N, by omega, fun K a b => by omega, h4, h5, ?_⟩
  rw [Nat.sub_self]
  exact h6
theorem il_M_chg {hh' cc' kp' dm' : Nat → Int32} (h : il_M N N hh cc sn sc sm se sv sk kp dm) (k : il_KD hh' cc' kp' dm') : il_M N N hh' cc' sn sc sm se sv sk kp' dm' := by
  obtain ⟨_, _, _, h4, h5, _⟩ := h
  refine ⟨Nat.le_refl N, by omega, fun K a b => by omega, h4, h5, ?_⟩
  rw [Nat.sub_self]
  exact k
theorem il_M_kd (h : il_M N N hh cc sn sc sm se sv sk kp dm) : il_KD hh cc kp dm := by
  have h6 := h.2.2.2.2.2
  rw [Nat.sub_self] at h6
  exact h6
/-- the sections below N are as they were -/
theorem il_F_old (hM : il_M H N hh cc sn sc sm se sv sk kp dm) (hF : il_F N n f sn sc se sv sk ws wv sn' sc' se' sv' sk') {K : Nat} (h1 : H ≤ K) (h2 : K < N) : K % 8 ≠ N % 8 ∧ il_ag sn sc se sv sk sn' sc' se' sv' sk' (K % 8) ∧ il_ok sc se sv sk (K % 8) := by
  have h7 := hM.2.1
  have hd : K % 8 ≠ N % 8 := by omega
  exact ⟨hd, hF.1 _ (by omega) hd, (hM.2.2.1 K h1 h2).2.1⟩
theorem il_F_aj (hM : il_M H N hh cc sn sc sm se sv sk kp dm) (hF : il_F N n f sn sc se sv sk ws wv sn' sc' se' sv' sk') : il_aj sc' se' sv' H (N - H) hh = il_aj sc se sv H (N - H) hh ∧ il_aj sc' se' sk' H (N - H) cc = il_aj sc se sk H (N - H) cc :=
  il_ag_aj (N - H) fun K h1 h2 => (il_F_old hM hF h1 (by have := hM.1; omega)).2
theorem il_F_J (hM : il_M H N hh cc sn sc sm se sv sk kp dm) (hF : il_F N n f sn sc se sv sk ws wv sn' sc' se' sv' sk') (z : Int32) {K : Nat} (h1 : H ≤ K) (h2 : K < N) : sn' (K % 8) = nI K ∧ il_ok sc' se' sv' sk' (K % 8) ∧ upd sm (N % 8) z (K % 8) = il_sum sn' sc' se' sv' sk' (K % 8) := by
  obtain ⟨hd, ha, ho⟩ := il_F_old hM hF h1 h2
  obtain ⟨j1, _, j3⟩ := hM.2.2.1 K h1 h2
  exact ⟨ha.1.trans j1, il_ag_ok ha ho, by rw [pk_un hd, il_ag_sum ha ho]; exact j3⟩
theorem il_F_T (hM : il_M H N hh cc sn sc sm se sv sk kp dm) (hF : il_F N n f sn sc se sv sk ws wv sn' sc' se' sv' sk') (hN : N < 1073741824) {j : Nat} (hj : j < 8) : (sn' j).toInt ≤ (N : Int) := by
  by_cases e : j = N % 8
  · rw [e, hF.2.1, nI_toInt (by omega)]; exact Int.le_refl _
  · rw [(hF.1 j hj e).1]; exact hM.2.2.2.1 j hj
/-- a section made whole -/
theorem il_M_com (hM : il_M H N hh cc sn sc sm se sv sk kp dm) (h6 : N ≤ H + 6) (hn1 : 1 ≤ n) (hn4 : n ≤ 4) (hN : N < 1073741824) (hw : ∀ a, a < n → ∃ s, s < 12 ∧ ws (f + a) = nI s) (hF : il_F N n f sn sc se sv sk ws wv sn' sc' se' sv' sk') : il_M H (N + 1) hh cc sn' sc' (upd sm (N % 8) (il_sum sn' sc' se' sv' sk' (N % 8))) se' sv' sk' (il_ap ws wv f n kp) (il_ap ws (fun _ => 0) f n dm) := by
  have hH := hM.1
  obtain ⟨f1, f2, f3, f4⟩ := hF
  have hF : il_F N n f sn sc se sv sk ws wv sn' sc' se' sv' sk' := ⟨f1, f2, f3, f4⟩
  refine ⟨by omega, by omega, fun K h1 h2 => ?_, fun j hj => ?_, fun e => ?_, ?_⟩
  · by_cases e : K = N
    · subst e
      refine ⟨f2, ⟨n, hn1, hn4, f3, fun a ha => ?_⟩, pk_us⟩
      obtain ⟨g1, g2, g3⟩ := f4 a ha
      rw [g1, g2, g3]
      exact ⟨hw a ha, rfl⟩
    · exact il_F_J hM hF _ h1 (by omega)
  · have := il_F_T hM hF hN hj
    omega
  · exfalso
    have h := il_F_T hM hF hN (j := (N + 1) % 8) (by omega)
    rw [e, nI_toInt (by omega)] at h
    omega
  · obtain ⟨a1, a2⟩ := il_F_aj hM hF
    have ed : N + 1 - H = (N - H) + 1 := by omega
    have eN : H + (N - H) = N := by omega
    have cn : (nI n).toNatClampNeg = n := nI_clamp (by omega)
    have e1 : il_aj sc' se' sv' H (N + 1 - H) hh = il_ap ws wv f n (il_aj sc se sv H (N - H) hh) := by
      rw [ed]
      show il_ap se' sv' (4 * ((H + (N - H)) % 8)) (sc' ((H + (N - H)) % 8)).toNatClampNeg (il_aj sc' se' sv' H (N - H) hh) = _
      rw [eN, f3, cn, a1]
      exact il_ap_congr n fun a ha => ⟨(f4 a ha).1, (f4 a ha).2.1⟩
    have e2 : il_aj sc' se' sk' H (N + 1 - H) cc = il_ap ws (fun p => il_ck (ws p) (wv p)) f n (il_aj sc se sk H (N - H) cc) := by
      rw [ed]
      show il_ap se' sk' (4 * ((H + (N - H)) % 8)) (sc' ((H + (N - H)) % 8)).toNatClampNeg (il_aj sc' se' sk' H (N - H) cc) = _
      rw [eN, f3, cn, a2]
      exact il_ap_congr n fun a ha => ⟨(f4 a ha).1, (f4 a ha).2.2⟩
    rw [e1, e2]
    exact il_KD_ap hM.2.2.2.2.2 n fun a ha => ⟨hw a ha, rfl⟩
/-- a section torn -/
theorem il_M_tear (hM : il_M H N hh cc sn sc sm se sv sk kp dm) (hN : N < 1073741824) (hF : il_F N n f sn sc se sv sk ws wv sn' sc' se' sv' sk') : il_M H N hh cc sn' sc' (upd sm (N % 8) (il_sum sn' sc' se' sv' sk' (N % 8) ^^^ (-1))) se' sv' sk' kp dm := by
  refine ⟨hM.1, hM.2.1, fun K h1 h2 => il_F_J hM hF _ h1 h2, fun j hj => il_F_T hM hF hN hj, fun _ e => ?_, ?_⟩
  · rw [pk_us] at e
    exact absurd (il_xor e) (by decide)
  · obtain ⟨a1, a2⟩ := il_F_aj hM hF
    rw [a1, a2]
    exact hM.2.2.2.2.2
end
/-- the pending writes, alike on both sides -/
def il_W (W : Nat) (ws wv ys yv : Nat → Int32) : Prop := ∀ i, i < W → ws i = ys i ∧ wv i = yv i ∧ ∃ s, s < 12 ∧ ys i = nI s
/-- the newest place below n that holds x; -1 if there is none -/
def il_nw (ws : Nat → Int32) (x : Int32) : Nat → Int32
  | 0 => -1
  | n + 1 => if ws n = x then nI n else il_nw ws x n
theorem il_nw_c (ws : Nat → Int32) (x : Int32) : ∀ n, il_nw ws x n = -1 ∨ ∃ p, p < n ∧ il_nw ws x n = nI p
  | 0 => Or.inl rfl
  | n + 1 => by
    by_cases e : ws n = x
    · exact Or.inr ⟨n, Nat.lt_succ_self n, if_pos e⟩
    · have e2 : il_nw ws x (n + 1) = il_nw ws x n := if_neg e
      rw [e2]
      rcases il_nw_c ws x n with h | ⟨p, hp, h⟩
      · exact Or.inl h
      · exact Or.inr ⟨p, by omega, h⟩
theorem il_nw_congr {ws ys : Nat → Int32} {x : Int32} : ∀ n, (∀ i, i < n → ws i = ys i) → il_nw ws x n = il_nw ys x n
  | 0, _ => rfl
  | n + 1, h => by
    show (if ws n = x then nI n else il_nw ws x n) = (if ys n = x then nI n else il_nw ys x n)
    rw [h n (Nat.lt_succ_self n), il_nw_congr n (fun i hi => h i (by omega))]
end
section
/-! the component's storing methods, each with a general post -/
theorem il_j4 (j c : Nat) : nI j * 4 + nI c = nI (4 * j + c) := by
  have h : nI j * 4 = nI (j * 4) := pk_mul j 4
  rw [h, nI_add, Nat.mul_comm]
theorem il_j40 (j : Nat) : nI j * 4 = nI (4 * j + 0) := by
  have h : nI j * 4 = nI (j * 4) := pk_mul j 4
  rw [h, Nat.mul_comm, Nat.add_zero]
theorem il_and7 {n : Nat} (h : n < 1073741824) : nI n &&& 7 = nI (n % 8) := pk_andN (by omega) 3 (by decide)
section
variable {post : SX → Prop} {hf ns fw fm : Int32} {hh cc sn sc sm se sv sk ws wv : Nat → Int32} {j c : Nat} {x y : Int32}
theorem il_as4 (hj : j < 8) (hc : sc j = nI c) (hc4 : c ≤ 4) (he : ∀ a, a < c → ∃ s, s < 12 ∧ se (4 * j + a) = nI s) (hp : post (hf, ns, fw, fm, il_ap se sv (4 * j) c hh, il_ap se sk (4 * j) c cc, sn, sc, sm, se, sv, sk, ws, wv)) : ∀ d n i, i + d = c → d < n → wX_applySlot_4 post (nI j) hf ns fw fm n (nI (4 * j + i)) (il_ap se sv (4 * j) i hh) (il_ap se sk (4 * j) i cc) sn sc sm se sv sk ws wv := by
  have e1 : nI j * 4 + sc (nI j).toNatClampNeg = nI (4 * j + c) := by
    rw [nI_clamp (by omega), hc, il_j4]
  have hv : vp_in (nI j) 8 := vp_in_nI hj (by omega)
  intro d
  induction d with
  | zero =>
    intro n i hi hn
    obtain ⟨n, rfl⟩ : ∃ m, n = m + 1 := ⟨n - 1, by omega⟩
    have hi : i = c := by omega
    rw [hi]
    refine And.intro hv (br_t ?_ hp)
    rw [e1]; exact nI_le (by omega) (by omega)
  | succ d ih =>
    intro n i hi hn
    obtain ⟨n, rfl⟩ : ∃ m, n = m + 1 := ⟨n - 1, by omega⟩
    obtain ⟨s, hs, es⟩ := he i (by omega)
    have cl : (nI (4 * j + i)).toNatClampNeg = 4 * j + i := nI_clamp (by omega)
    have hi32 : vp_in (nI (4 * j + i)) 32 := vp_in_nI (by omega) (by omega)
    have hs12 : vp_in (se (nI (4 * j + i)).toNatClampNeg) 12 := by rw [cl, es]; exact vp_in_nI hs (by omega)
    refine And.intro hv (br_f ?_ ⟨hi32, hi32, hs12, nm_r (e' := il_ap se sv (4 * j) (i + 1) hh) ?_ ⟨hi32, hi32, hs12, nm_r (e' := il_ap se sk (4 * j) (i + 1) cc) ?_ (nm_r (nI_1 _) (ih n (i + 1) (by omega) (by omega)))⟩⟩)
    · rw [e1]; exact nI_ge (by omega) (by omega)
    · rw [cl]; rfl
    · rw [cl]; rfl
theorem il_as (hx : x = nI j) (hj : j < 8) (ho : il_ok sc se sv sk j) (hp : post (hf, ns, fw, fm, il_ap se sv (4 * j) (sc j).toNatClampNeg hh, il_ap se sk (4 * j) (sc j).toNatClampNeg cc, sn, sc, sm, se, sv, sk, ws, wv)) : wpX_applySlot post (hf, ns, fw, fm, hh, cc, sn, sc, sm, se, sv, sk, ws, wv) x := by
  obtain ⟨c, h1, h4, hc, he⟩ := ho
  rw [hc, nI_clamp (by omega)] at hp
  subst hx
  unfold wpX_applySlot
  dsimp only
  intro x2 hx2
  rw [hx2, il_j40]
  exact ⟨c + 1, il_as4 hj hc h4 (fun a ha => (he a ha).1) hp c (c + 1) 0 (by omega) (by omega)⟩
theorem il_ch5 {H N : Nat} (hHN : H ≤ N) (hN : N < 1073741824) (ho : ∀ K, H ≤ K → K < N → il_ok sc se sv sk (K % 8)) (hp : post (nI N, nI N, fw, fm, il_aj sc se sv H (N - H) hh, il_aj sc se sk H (N - H) cc, sn, sc, sm, se, sv, sk, ws, wv)) : ∀ d n t, t + d = N - H → d < n → wX_copyHome_5 post n (nI (H + t)) (nI H) (nI N) fw fm (il_aj sc se sv H t hh) (il_aj sc se sk H t cc) sn sc sm se sv sk ws wv := by
  intro d
  induction d with
  | zero =>
    intro n t ht hn
    obtain ⟨n, rfl⟩ : ∃ m, n = m + 1 := ⟨n - 1, by omega⟩
    have ht : t = N - H := by omega
    rw [ht]
    exact br_t (nI_le (by omega) (by omega)) hp
  | succ d ih =>
    intro n t ht hn
    obtain ⟨n, rfl⟩ : ∃ m, n = m + 1 := ⟨n - 1, by omega⟩
    refine br_f (nI_ge (by omega) (by omega)) (il_as (il_and7 (by omega)) (by omega) (ho (H + t) (by omega) (by omega)) ?_)
    exact nm_r (nI_1 (H + t)) (ih n (t + 1) (by omega) (by omega))
theorem il_ch {H N : Nat} (hHN : H ≤ N) (hN : N < 1073741824) (ho : ∀ K, H ≤ K → K < N → il_ok sc se sv sk (K % 8)) (hp : post (nI N, nI N, fw, fm, il_aj sc se sv H (N - H) hh, il_aj sc se sk H (N - H) cc, sn, sc, sm, se, sv, sk, ws, wv)) : wpX_copyHome post (nI H, nI N, fw, fm, hh, cc, sn, sc, sm, se, sv, sk, ws, wv) :=
  ⟨N - H + 1, il_ch5 hHN hN ho hp (N - H) (N - H + 1) 0 (by omega) (by omega)⟩
end
section
variable {post : Int32 → Prop} {hf ns fw fm : Int32} {hh cc sn sc sm se sv sk ws wv : Nat → Int32} {j c : Nat} {x y : Int32}
theorem il_so21 (hj : j < 8) (hc : sc j = nI c) (hc4 : c ≤ 4) (hp : post (il_sm se sv sk (4 * j) y c)) : ∀ d n i, i + d = c → d < n → wX_sumOf_21 post (nI j) hf ns fw fm hh cc sn sc sm se sv sk ws wv n (il_sm se sv sk (4 * j) y i) (nI (4 * j + i)) := by
  have e1 : nI j * 4 + sc (nI j).toNatClampNeg = nI (4 * j + c) := by
    rw [nI_clamp (by omega), hc, il_j4]
  have hv : vp_in (nI j) 8 := vp_in_nI hj (by omega)
  intro d
  induction d with
  | zero =>
    intro n i hi hn
    obtain ⟨n, rfl⟩ : ∃ m, n = m + 1 := ⟨n - 1, by omega⟩
    have hi : i = c := by omega
    rw [hi]
    refine And.intro hv (br_t ?_ hp)
    rw [e1]; exact nI_le (by omega) (by omega)
  | succ d ih =>
    intro n i hi hn
    obtain ⟨n, rfl⟩ : ∃ m, n = m + 1 := ⟨n - 1, by omega⟩
    have cl : (nI (4 * j + i)).toNatClampNeg = 4 * j + i := nI_clamp (by omega)
    have hi32 : vp_in (nI (4 * j + i)) 32 := vp_in_nI (by omega) (by omega)
    refine And.intro hv (br_f ?_ ⟨hi32, nm_e ⟨hi32, nm_e ⟨hi32, nm_r (e' := il_sm se sv sk (4 * j) y (i + 1)) ?_ (nm_r (nI_1 _) (ih n (i + 1) (by omega) (by omega)))⟩⟩⟩)
    · rw [e1]; exact nI_ge (by omega) (by omega)
    · rw [cl]; rfl
theorem il_so (hx : x = nI j) (hj : j < 8) (hc : sc j = nI c) (hc4 : c ≤ 4) (hp : post (il_sum sn sc se sv sk j)) : wpX_sumOf post (hf, ns, fw, fm, hh, cc, sn, sc, sm, se, sv, sk, ws, wv) x := by
  have hv : vp_in (nI j) 8 := vp_in_nI hj (by omega)
  subst hx
  unfold il_sum at hp
  rw [hc, nI_clamp (by omega), ← hc] at hp
  unfold wpX_sumOf
  dsimp only
  refine ⟨hv, hv, fun z hz w hw => ?_⟩
  rw [hz, hw, il_j40, nI_clamp (by omega)]
  exact ⟨c + 1, il_so21 hj hc hc4 hp c (c + 1) 0 (by omega) (by omega)⟩
theorem il_wh1 (hx : x = nI j) (hj : j < 8) (hn : sn j = y) (ho : il_ok sc se sv sk j) (hs : sm j = il_sum sn sc se sv sk j) (hp : post 1) : wpX_whole post (hf, ns, fw, fm, hh, cc, sn, sc, sm, se, sv, sk, ws, wv) x y := by
  obtain ⟨c, h1, h4, hc, _⟩ := ho
  have hv : vp_in x 8 := by rw [hx]; exact vp_in_nI hj (by omega)
  have cl : x.toNatClampNeg = j := by rw [hx]; exact nI_clamp (by omega)
  unfold wpX_whole
  dsimp only
  rw [cl, hc]
  refine ⟨hv, br_t hn ⟨hv, br_f (nI_nlt (b := 1) h1 (by omega)) ⟨hv, br_t (nI_le (b := 4) h4 (by omega)) (il_so hx hj hc h4 ⟨hv, br_t hs.symm hp⟩)⟩⟩⟩
theorem il_wh0 (hx : x = nI j) (hj : j < 8) (hn : sn j = y → sm j ≠ il_sum sn sc se sv sk j) (hp : post 0) : wpX_whole post (hf, ns, fw, fm, hh, cc, sn, sc, sm, se, sv, sk, ws, wv) x y := by
  have hv : vp_in x 8 := by rw [hx]; exact vp_in_nI hj (by omega)
  have cl : x.toNatClampNeg = j := by rw [hx]; exact nI_clamp (by omega)
  unfold wpX_whole
  dsimp only
  rw [cl]
  refine ⟨hv, br_c (fun h => ⟨hv, br_c (fun _ => hp) fun h1 => ⟨hv, br_c (fun h4 => ?_) fun _ => hp⟩⟩) fun _ => hp⟩
  have h0 : ¬ sc j < 0 := by
    rw [Int32.lt_iff_toInt_lt] at h1 ⊢
    have a1 : (1 : Int32).toInt = 1 := by decide
    have a0 : (0 : Int32).toInt = 0 := by decide
    omega
  obtain ⟨c, c4, hc⟩ := nI_of2 (M := 4) (n := 4) (by decide) h0 h4
  exact il_so hx hj hc c4 ⟨hv, br_f (fun e => hn h e.symm) hp⟩
end
section
variable {post : SX → Prop} {hf ns fw fm : Int32} {hh cc sn sc sm se sv sk ws wv kp dm : Nat → Int32}
theorem il_rp9 {H N : Nat} (hM : il_M H N hh cc sn sc sm se sv sk kp dm) (hN : N < 1073741824) (hp : post (nI N, nI N, fw, fm, il_aj sc se sv H (N - H) hh, il_aj sc se sk H (N - H) cc, sn, sc, sm, se, sv, sk, ws, wv)) : ∀ d n t, t + d = N - H → d + 1 < n → wX_replay_9 post n (nI (H + t)) 1 (nI t) hf ns fw fm (il_aj sc se sv H t hh) (il_aj sc se sk H t cc) sn sc sm se sv sk ws wv := by
  have hHN := hM.1
  have h7 := hM.2.1
  intro d
  induction d with
  | zero =>
    intro n t ht hn
    obtain ⟨n, rfl⟩ : ∃ m, n = m + 1 + 1 := ⟨n - 2, by omega⟩
    have eN : H + t = N := by omega
    have ht : N - H = t := by omega
    rw [ht] at hp
    rw [eN]
    refine br_f (nI_ge (b := 8) (by omega) (by omega)) (br_f (by decide) (il_wh0 (il_and7 hN) (by omega) hM.2.2.2.2.1 (br_t rfl (nm_r (nI_1 t) ?_))))
    exact br_c (fun _ => hp) fun _ => br_t rfl hp
  | succ d ih =>
    intro n t ht hn
    obtain ⟨n, rfl⟩ : ∃ m, n = m + 1 := ⟨n - 1, by omega⟩
    obtain ⟨j1, j2, j3⟩ := hM.2.2.1 (H + t) (by omega) (by omega)
    refine br_f (nI_ge (b := 8) (by omega) (by omega)) (br_f (by decide) (il_wh1 (il_and7 (by omega)) (by omega) j1 j2 j3 (br_f (by decide) (il_as (il_and7 (by omega)) (by omega) j2 ?_))))
    exact nm_r (nI_1 (H + t)) (nm_r (nI_1 t) (ih n (t + 1) (by omega) (by omega)))
theorem il_rp {H N : Nat} (hM : il_M H N hh cc sn sc sm se sv sk kp dm) (hN : N < 1073741824) (hp : post (nI N, nI N, fw, fm, il_aj sc se sv H (N - H) hh, il_aj sc se sk H (N - H) cc, sn, sc, sm, se, sv, sk, ws, wv)) : wpX_replay post (nI H, ns, fw, fm, hh, cc, sn, sc, sm, se, sv, sk, ws, wv) :=
  ⟨N - H + 2, il_rp9 hM hN hp (N - H) (N - H + 2) 0 (by omega) (by omega)⟩
end
section
variable {post : Int32 → SX → Prop} {hf ns fw fm : Int32} {hh cc sn sc sm se sv sk ws wv kp dm : Nat → Int32} {H N n f : Nat}
theorem il_fs46 {j : Nat} (hj : j < 8) (hfn : f + n ≤ 20) (hn4 : n ≤ 4) (hp : post (nI j) (hf, ns, fw, fm, hh, cc, sn, sc, sm, il_cp se (4 * j) (fun a => ws (f + a)) n, il_cp sv (4 * j) (fun a => wv (f + a)) n, il_cp sk (4 * j) (fun a => il_ck (ws (f + a)) (wv (f + a))) n, ws, wv)) : ∀ d m i, i + d = n → d < m → wX_fillSlot_46 post (nI f) (nI n) (nI j) hf ns fw fm m (nI i) hh cc sn sc sm (il_cp se (4 * j) (fun a => ws (f + a)) i) (il_cp sv (4 * j) (fun a => wv (f + a)) i) (il_cp sk (4 * j) (fun a => il_ck (ws (f + a)) (wv (f + a))) i) ws wv := by
  intro d
  induction d with
  | zero =>
    intro m i hi hm
    obtain ⟨m, rfl⟩ : ∃ q, m = q + 1 := ⟨m - 1, by omega⟩
    have hi : i = n := by omega
    rw [hi]
    exact br_t (nI_le (by omega) (by omega)) hp
  | succ d ih =>
    intro m i hi hm
    obtain ⟨m, rfl⟩ : ∃ q, m = q + 1 := ⟨m - 1, by omega⟩
    have cl : (nI (4 * j + i)).toNatClampNeg = 4 * j + i := nI_clamp (by omega)
    have clf : (nI f + nI i).toNatClampNeg = f + i := by rw [nI_add]; exact nI_clamp (by omega)
    have hi32 : vp_in (nI (4 * j + i)) 32 := vp_in_nI (by omega) (by omega)
    have hw : vp_in (nI f + nI i) 20 := by rw [nI_add]; exact vp_in_nI (by omega) (by omega)
    have q1 : upd (il_cp se (4 * j) (fun a => ws (f + a)) i) (nI (4 * j + i)).toNatClampNeg (ws (nI f + nI i).toNatClampNeg) = il_cp se (4 * j) (fun a => ws (f + a)) (i + 1) := by rw [cl, clf]; rfl
    have q2 : upd (il_cp sv (4 * j) (fun a => wv (f + a)) i) (nI (4 * j + i)).toNatClampNeg (wv (nI f + nI i).toNatClampNeg) = il_cp sv (4 * j) (fun a => wv (f + a)) (i + 1) := by rw [cl, clf]; rfl
    have q3 : upd (il_cp sk (4 * j) (fun a => il_ck (ws (f + a)) (wv (f + a))) i) (nI (4 * j + i)).toNatClampNeg (il_ck (ws (nI f + nI i).toNatClampNeg) (wv (nI f + nI i).toNatClampNeg)) = il_cp sk (4 * j) (fun a => il_ck (ws (f + a)) (wv (f + a))) (i + 1) := by rw [cl, clf]; rfl
    refine br_f (nI_ge (by omega) (by omega)) (nm_r (il_j4 j i) ⟨hw, hi32, nm_r q1 ⟨hw, hi32, nm_r q2 ⟨hw, hw, ?_⟩⟩⟩)
    exact And.intro hi32 (nm_r q3 (nm_r (nI_1 i) (ih m (i + 1) (by omega) (by omega))))
theorem il_fs18 (hN : N < 1073741824) (hfn : f + n ≤ 20) (hn4 : n ≤ 4) (hp : ∀ sn' sc' se' sv' sk', il_F N n f sn sc se sv sk ws wv sn' sc' se' sv' sk' → post (nI (N % 8)) (hf, nI N, fw, fm, hh, cc, sn', sc', sm, se', sv', sk', ws, wv)) : wX_fillSlot_18 post (nI f) (nI n) hf (nI N) fw fm hh cc sn sc sm se sv sk ws wv := by
  have hv : vp_in (nI (N % 8)) 8 := vp_in_nI (by omega) (by omega)
  have cl : (nI (N % 8)).toNatClampNeg = N % 8 := nI_clamp (by omega)
  unfold wX_fillSlot_18
  rw [il_and7 hN]
  refine nm_e ⟨hv, nm_r (e' := upd sn (N % 8) (nI N)) (by rw [cl]) ⟨hv, nm_r (e' := upd sc (N % 8) (nI n)) (by rw [cl]) ⟨n + 1, ?_⟩⟩⟩
  exact il_fs46 (by omega) hfn hn4 (hp _ _ _ _ _ (il_F_cp hn4)) n (n + 1) 0 (by omega) (by omega)
theorem il_fs (hM : il_M H N hh cc sn sc sm se sv sk kp dm) (hN : N < 1073741824) (hfn : f + n ≤ 20) (hn4 : n ≤ 4) (hp : ∀ H' hh' cc' sn' sc' se' sv' sk', N ≤ H' + 6 → il_M H' N hh' cc' sn sc sm se sv sk kp dm → il_F N n f sn sc se sv sk ws wv sn' sc' se' sv' sk' → post (nI (N % 8)) (nI H', nI N, fw, fm, hh', cc', sn', sc', sm, se', sv', sk', ws, wv)) : wpX_fillSlot post (nI H, nI N, fw, fm, hh, cc, sn, sc, sm, se, sv, sk, ws, wv) (nI f) (nI n) := by
  have hHN := hM.1
  unfold wpX_fillSlot
  dsimp only
  rw [pk_sub hHN]
  refine pk_lt (N - H) 7 (fun h => il_fs18 hN hfn hn4 fun _ _ _ _ _ hF => hp H _ _ _ _ _ _ _ (by omega) hM hF) (fun h => ?_)
  refine il_ch hHN hN (fun K h1 h2 => (hM.2.2.1 K h1 h2).2.1) ?_
  exact il_fs18 hN hfn hn4 fun _ _ _ _ _ hF => hp N _ _ _ _ _ _ _ (by omega) (il_M_home hM) hF
end
section
variable {post : SX → Prop} {hf ns fw fm : Int32} {hh cc sn sc sm se sv sk ws wv kp dm : Nat → Int32} {H N n f : Nat} {x : Int32}
theorem il_co21 {J2 : Int32 → Int32 → Int32 → Int32 → Int32 → (Nat → Int32) → (Nat → Int32) → (Nat → Int32) → (Nat → Int32) → (Nat → Int32) → (Nat → Int32) → (Nat → Int32) → (Nat → Int32) → (Nat → Int32) → (Nat → Int32) → Prop} (hM : il_M H N hh cc sn sc sm se sv sk kp dm) (hN : N < 1073741824) (hfn : f + n ≤ 20) (hn1 : 1 ≤ n) (hn4 : n ≤ 4) (hw : ∀ a, a < n → ∃ s, s < 12 ∧ ws (f + a) = nI s) (hp : ∀ H' hh' cc' sn' sc' sm' se' sv' sk', il_M H' (N + 1) hh' cc' sn' sc' sm' se' sv' sk' (il_ap ws wv f n kp) (il_ap ws (fun _ => 0) f n dm) → J2 (nI (f + 4)) (nI H') (nI (N + 1)) fw fm hh' cc' sn' sc' sm' se' sv' sk' ws wv) : wX_commit_21 post J2 x (nI f) (nI n) (nI H) (nI N) fw fm hh cc sn sc sm se sv sk ws wv := by
  unfold wX_commit_21
  refine il_fs hM hN hfn hn4 fun H' hh' cc' sn' sc' se' sv' sk' h6 hM' hF => ?_
  have hv : vp_in (nI (N % 8)) 8 := vp_in_nI (by omega) (by omega)
  have cl : (nI (N % 8)).toNatClampNeg = N % 8 := nI_clamp (by omega)
  have e4 : nI f + 4 = nI (f + 4) := nI_add f 4
  dsimp only
  refine il_so rfl (by omega) hF.2.2.1 hn4 ⟨hv, nm_r (e' := upd sm (N % 8) (il_sum sn' sc' se' sv' sk' (N % 8))) (by rw [cl]) (nm_r (nI_1 N) (nm_r e4 ?_))⟩
  exact hp H' _ _ _ _ _ _ _ _ (il_M_com hM' h6 hn1 hn4 hN hw hF)
theorem il_co2 {N0 : Nat} (hn : n ≤ 20) (hN : N0 < 536870912) (hw : ∀ a, a < n → ∃ s, s < 12 ∧ ws a = nI s) (hp : ∀ H' N' hh' cc' sn' sc' sm' se' sv' sk', N' ≤ N0 + 5 → il_M H' N' hh' cc' sn' sc' sm' se' sv' sk' (il_ap ws wv 0 n kp) (il_ap ws (fun _ => 0) 0 n dm) → post (nI H', nI N', fw, fm + nI n, hh', cc', sn', sc', sm', se', sv', sk', ws, wv)) : ∀ q t e H hh cc sn sc sm se sv sk, t ≤ 5 → n < 4 * t + q → (4 * t < n → e = 4 * t) → (n ≤ 4 * t → e = n) → il_M H (N0 + t) hh cc sn sc sm se sv sk (il_ap ws wv 0 e kp) (il_ap ws (fun _ => 0) 0 e dm) → wX_commit_2 post (nI n) (q + 1) (nI (4 * t)) (nI H) (nI (N0 + t)) fw fm hh cc sn sc sm se sv sk ws wv := by
  intro q
  induction q with
  | zero =>
    intro t e H hh cc sn sc sm se sv sk h5 hq he1 he2 hM
    have e2 := he2 (by omega)
    subst e2
    exact br_t (nI_le (by omega) (by omega)) (nm_e (hp H (N0 + t) _ _ _ _ _ _ _ _ (by omega) hM))
  | succ q ih =>
    intro t e H hh cc sn sc sm se sv sk h5 hq he1 he2 hM
    refine pk_le n (4 * t) (fun h => ?_) (fun h => ?_)
    · have e2 := he2 h
      subst e2
      exact nm_e (hp H (N0 + t) _ _ _ _ _ _ _ _ (by omega) hM)
    · have e1 := he1 h
      subst e1
      rw [pk_sub (by omega)]
      have e4 : 4 * t + 4 = 4 * (t + 1) := by omega
      have hz : ∀ a m : Nat, il_ap ws wv 0 (a + m) kp = il_ap ws wv a m (il_ap ws wv 0 a kp) ∧ il_ap ws (fun _ => 0) 0 (a + m) dm = il_ap ws (fun _ => 0) a m (il_ap ws (fun _ => 0) 0 a dm) := fun a m => by
        rw [il_ap_add, il_ap_add, Nat.zero_add]; exact ⟨rfl, rfl⟩
      refine pk_le 4 (n - 4 * t) (fun g => ?_) (fun g => ?_)
      · refine il_co21 (n := 4) hM (by omega) (by omega) (by omega) (by omega) (fun a ha => hw _ (by omega)) fun H' hh' cc' sn' sc' sm' se' sv' sk' hM' => ?_
        rw [e4]
        refine ih (t + 1) (4 * t + 4) H' hh' cc' sn' sc' sm' se' sv' sk' (by omega) (by omega) (fun _ => by omega) (fun _ => by omega) ?_
        rw [(hz (4 * t) 4).1, (hz (4 * t) 4).2]
        exact hM'
      · refine il_co21 hM (by omega) (by omega) (by omega) (by omega) (fun a ha => hw _ (by omega)) fun H' hh' cc' sn' sc' sm' se' sv' sk' hM' => ?_
        rw [e4]
        refine ih (t + 1) (4 * t + (n - 4 * t)) H' hh' cc' sn' sc' sm' se' sv' sk' (by omega) (by omega) (fun _ => by omega) (fun _ => by omega) ?_
        rw [(hz (4 * t) (n - 4 * t)).1, (hz (4 * t) (n - 4 * t)).2]
        exact hM'
theorem il_co (hn : n ≤ 20) (hN : N < 536870912) (hw : ∀ a, a < n → ∃ s, s < 12 ∧ ws a = nI s) (hM : il_M H N hh cc sn sc sm se sv sk kp dm) (hp : ∀ H' N' hh' cc' sn' sc' sm' se' sv' sk', N' ≤ N + 5 → il_M H' N' hh' cc' sn' sc' sm' se' sv' sk' (il_ap ws wv 0 n kp) (il_ap ws (fun _ => 0) 0 n dm) → post (nI H', nI N', fw, fm + nI n, hh', cc', sn', sc', sm', se', sv', sk', ws, wv)) : wpX_commit post (nI H, nI N, fw, fm, hh, cc, sn, sc, sm, se, sv, sk, ws, wv) (nI n) :=
  ⟨n + 1 + 1, il_co2 hn hN hw hp (n + 1) 0 0 H hh cc sn sc sm se sv sk (by omega) (by omega) (fun _ => by omega) (fun _ => by omega) hM⟩
theorem il_te10 (hM : il_M H N hh cc sn sc sm se sv sk kp dm) (hN : N < 1073741824) (hfn : f + n ≤ 20) (hn4 : n ≤ 4) (hp : ∀ H' hh' cc' sn' sc' sm' se' sv' sk', il_M H' N hh' cc' sn' sc' sm' se' sv' sk' kp dm → post (nI H', nI N, fw, fm, hh', cc', sn', sc', sm', se', sv', sk', ws, wv)) : wX_tear_10 post (nI f) (nI n) (nI H) (nI N) fw fm hh cc sn sc sm se sv sk ws wv := by
  unfold wX_tear_10
  refine il_fs hM hN hfn hn4 fun H' hh' cc' sn' sc' se' sv' sk' h6 hM' hF => ?_
  have hv : vp_in (nI (N % 8)) 8 := vp_in_nI (by omega) (by omega)
  have cl : (nI (N % 8)).toNatClampNeg = N % 8 := nI_clamp (by omega)
  dsimp only
  refine il_so rfl (by omega) hF.2.2.1 hn4 ⟨hv, nm_r (e' := upd sm (N % 8) (il_sum sn' sc' se' sv' sk' (N % 8) ^^^ (-1))) (by rw [cl]) ?_⟩
  exact hp H' _ _ _ _ _ _ _ _ (il_M_tear hM' hN hF)
theorem il_te {m : Nat} (hM : il_M H N hh cc sn sc sm se sv sk kp dm) (hN : N < 1073741824) (hfm : f + m ≤ 20) (hp : ∀ H' hh' cc' sn' sc' sm' se' sv' sk', il_M H' N hh' cc' sn' sc' sm' se' sv' sk' kp dm → post (nI H', nI N, fw, fm, hh', cc', sn', sc', sm', se', sv', sk', ws, wv)) : wpX_tear post (nI H, nI N, fw, fm, hh, cc, sn, sc, sm, se, sv, sk, ws, wv) (nI f) (nI m) := by
  unfold wpX_tear
  dsimp only
  exact pk_le 4 m (fun h => il_te10 (n := 4) hM hN (by omega) (by omega) hp) (fun h => il_te10 hM hN hfm (by omega) hp)
theorem il_dw12 {m W : Nat} (hm : m ≤ W) (hW : W ≤ 20) (hp : post (hf, ns, nI (W - m), fm, hh, cc, sn, sc, sm, se, sv, sk, il_cp ws 0 (fun a => ws (a + m)) (W - m), il_cp wv 0 (fun a => wv (a + m)) (W - m))) : ∀ d q i, i + d = W - m → d < q → wX_dropWaiting_12 post (nI m) hf ns (nI (W - m)) fm q (nI i) hh cc sn sc sm se sv sk (il_cp ws 0 (fun a => ws (a + m)) i) (il_cp wv 0 (fun a => wv (a + m)) i) := by
  intro d
  induction d with
  | zero =>
    intro q i hi hq
    obtain ⟨q, rfl⟩ : ∃ z, q = z + 1 := ⟨q - 1, by omega⟩
    have hi : i = W - m := by omega
    rw [hi]
    exact br_t (nI_le (by omega) (by omega)) hp
  | succ d ih =>
    intro q i hi hq
    obtain ⟨q, rfl⟩ : ∃ z, q = z + 1 := ⟨q - 1, by omega⟩
    have cl : (nI i).toNatClampNeg = i := nI_clamp (by omega)
    have clm : (nI i + nI m).toNatClampNeg = i + m := by rw [nI_add]; exact nI_clamp (by omega)
    have h20 : vp_in (nI i) 20 := vp_in_nI (by omega) (by omega)
    have hm20 : vp_in (nI i + nI m) 20 := by rw [nI_add]; exact vp_in_nI (by omega) (by omega)
    have q1 : ∀ a : Nat → Int32, upd (il_cp a 0 (fun b => a (b + m)) i) (nI i).toNatClampNeg (il_cp a 0 (fun b => a (b + m)) i (nI i + nI m).toNatClampNeg) = il_cp a 0 (fun b => a (b + m)) (i + 1) := fun a => by
      show _ = upd _ (0 + i) _
      rw [cl, clm, il_cp_out i (i + m) (by omega), Nat.zero_add]
    exact br_f (nI_ge (by omega) (by omega)) ⟨hm20, h20, nm_r (q1 ws) ⟨hm20, h20, nm_r (q1 wv) (nm_r (nI_1 i) (ih q (i + 1) (by omega) (by omega)))⟩⟩
theorem il_dw {m W : Nat} (hm : m ≤ W) (hW : W ≤ 20) (hp : post (hf, ns, nI (W - m), fm, hh, cc, sn, sc, sm, se, sv, sk, il_cp ws 0 (fun a => ws (a + m)) (W - m), il_cp wv 0 (fun a => wv (a + m)) (W - m))) : wpX_dropWaiting post (hf, ns, nI W, fm, hh, cc, sn, sc, sm, se, sv, sk, ws, wv) (nI m) := by
  unfold wpX_dropWaiting
  dsimp only
  exact nm_r (pk_sub hm) ⟨W - m + 1, il_dw12 hm hW hp (W - m) (W - m + 1) 0 (by omega) (by omega)⟩
end
end
section
/-! the reading methods of both sides, each with a general post -/
def il_fd (sv sk hh cc : Nat → Int32) (s : Nat) (r h c : Int32) : Prop := (r = -1 ∧ h = hh s ∧ c = cc s) ∨ (∃ p, p < 32 ∧ r = nI p ∧ h = sv p ∧ c = sk p ∧ sk p = il_ck (nI s) (sv p))
section
variable {post : Int32 → Prop} {hf ns fw fm : Int32} {hh cc sn sc sm se sv sk ws wv : Nat → Int32} {s W : Nat} {x : Int32}
theorem il_xs (hs : s < 12) (hp : post 0) : wpX_bad post (nI s) := by
  unfold wpX_bad
  exact br_f (nI_pos (by omega)) (br_t (nI_lt (b := 12) hs (by omega)) hp)
theorem il_xb (hx : ∀ s, s < 12 → x ≠ nI s) (hp : post 1) : wpX_bad post x := by
  unfold wpX_bad
  refine br_c (fun _ => hp) fun h => ?_
  obtain ⟨j, hj, e⟩ := nI_of h
  subst e
  exact pk_lt j 12 (fun g => absurd rfl (hx j g)) (fun _ => hp) rfl rfl hj
theorem il_da (hs : s < 12) (h0 : cc s = il_ck (nI s) (hh s) → post 0) (h1 : cc s ≠ il_ck (nI s) (hh s) → post 1) : wpX_isDamaged post (hf, ns, fw, fm, hh, cc, sn, sc, sm, se, sv, sk, ws, wv) (nI s) := by
  have hv : vp_in (nI s) 12 := vp_in_nI hs (by omega)
  have cl : (nI s).toNatClampNeg = s := nI_clamp (by omega)
  unfold wpX_isDamaged
  dsimp only
  rw [cl]
  exact ⟨hv, And.intro hv (br_c h0 h1)⟩
theorem il_nw7 : ∀ n q, n ≤ 20 → n < q → post (il_nw ws x n) → wX_newestWaiting_7 post x hf ns fw fm hh cc sn sc sm se sv sk ws wv q (nI n - 1) := by
  intro n
  induction n with
  | zero =>
    intro q _ hq hp
    obtain ⟨q, rfl⟩ : ∃ z, q = z + 1 := ⟨q - 1, by omega⟩
    rw [show nI 0 - 1 = (-1 : Int32) from by decide]
    exact br_t (by decide) hp
  | succ n ih =>
    intro q h20 hq hp
    obtain ⟨q, rfl⟩ : ∃ z, q = z + 1 := ⟨q - 1, by omega⟩
    have cl : (nI n).toNatClampNeg = n := nI_clamp (by omega)
    rw [nI_pred]
    refine br_f (nI_pos (by omega)) ⟨vp_in_nI (by omega) (by omega), br_c (fun e => ?_) (fun e => ?_)⟩
    · rw [cl] at e
      rw [show il_nw ws x (n + 1) = nI n from if_pos e] at hp
      exact hp
    · rw [cl] at e
      rw [show il_nw ws x (n + 1) = il_nw ws x n from if_neg e] at hp
      exact nm_r (Int32.sub_eq_add_neg _ _).symm (ih q (by omega) (by omega) hp)
theorem il_xn (hW : W ≤ 20) (hp : post (il_nw ws x W)) : wpX_newestWaiting post (hf, ns, nI W, fm, hh, cc, sn, sc, sm, se, sv, sk, ws, wv) x :=
  nm_e ⟨W + 1, il_nw7 W (W + 1) hW (by omega) hp⟩
theorem il_nj27 {J7 : Int32 → Int32 → Prop} {j c K : Nat} {m m2 : Nat → Int32} (hs : s < 12) (hj : j < 8) (hc : sc j = nI c) (hc4 : c ≤ 4) (he : ∀ a, a < c → (∃ s, s < 12 ∧ se (4 * j + a) = nI s) ∧ sk (4 * j + a) = il_ck (se (4 * j + a)) (sv (4 * j + a))) (hJ : ∀ r, il_fd sv sk hh cc s r (il_ap se sv (4 * j) c m s) (il_ap se sk (4 * j) c m2 s) → J7 r (nI (K + 1))) : ∀ d q i r, i + d = c → d < q → il_fd sv sk hh cc s r (il_ap se sv (4 * j) i m s) (il_ap se sk (4 * j) i m2 s) → wX_newestJournaled_27 post J7 (nI s) (nI K) (nI j) hf ns fw fm hh cc sn sc sm se sv sk ws wv q r (nI (4 * j + i)) := by
  have e1 : nI j * 4 + sc (nI j).toNatClampNeg = nI (4 * j + c) := by
    rw [nI_clamp (by omega), hc, il_j4]
  have hv : vp_in (nI j) 8 := vp_in_nI hj (by omega)
  intro d
  induction d with
  | zero =>
    intro q i r hi hq hr
    obtain ⟨q, rfl⟩ : ∃ z, q = z + 1 := ⟨q - 1, by omega⟩
    have hi : i = c := by omega
    rw [hi] at hr ⊢
    refine And.intro hv (br_t ?_ (nm_r (nI_1 K) (hJ r hr)))
    rw [e1]; exact nI_le (by omega) (by omega)
  | succ d ih =>
    intro q i r hi hq hr
    obtain ⟨q, rfl⟩ : ∃ z, q = z + 1 := ⟨q - 1, by omega⟩
    have cl : (nI (4 * j + i)).toNatClampNeg = 4 * j + i := nI_clamp (by omega)
    have hi32 : vp_in (nI (4 * j + i)) 32 := vp_in_nI (by omega) (by omega)
    obtain ⟨⟨s', hs', es'⟩, ek⟩ := he i (by omega)
    have cs' : (nI s').toNatClampNeg = s' := nI_clamp (by omega)
    have a1 : il_ap se sv (4 * j) (i + 1) m = upd (il_ap se sv (4 * j) i m) s' (sv (4 * j + i)) := by
      show upd _ (se (4 * j + i)).toNatClampNeg _ = _
      rw [es', cs']
    have a2 : il_ap se sk (4 * j) (i + 1) m2 = upd (il_ap se sk (4 * j) i m2) s' (sk (4 * j + i)) := by
      show upd _ (se (4 * j + i)).toNatClampNeg _ = _
      rw [es', cs']
    refine And.intro hv (br_f ?_ ⟨hi32, br_c (fun e => nm_r (nI_1 _) (ih q (i + 1) _ (by omega) (by omega) ?_)) (fun e => nm_r (nI_1 _) (ih q (i + 1) _ (by omega) (by omega) ?_))⟩)
    · rw [e1]; exact nI_ge (by omega) (by omega)
    · rw [cl, es', nI_eq (by omega) (by omega)] at e
      subst e
      rw [es'] at ek
      rw [a1, a2, pk_us, pk_us]
      exact Or.inr ⟨4 * j + i, by omega, rfl, rfl, rfl, ek⟩
    · rw [cl, es', nI_eq (by omega) (by omega)] at e
      rw [a1, a2, pk_un (Ne.symm e), pk_un (Ne.symm e)]
      exact hr
theorem il_nj7 {H N : Nat} (hHN : H ≤ N) (hN : N < 1073741824) (hs : s < 12) (ho : ∀ K, H ≤ K → K < N → il_ok sc se sv sk (K % 8)) (hp : ∀ r, il_fd sv sk hh cc s r (il_aj sc se sv H (N - H) hh s) (il_aj sc se sk H (N - H) cc s) → post r) : ∀ d q t r, t + d = N - H → d < q → il_fd sv sk hh cc s r (il_aj sc se sv H t hh s) (il_aj sc se sk H t cc s) → wX_newestJournaled_7 post (nI s) hf (nI N) fw fm hh cc sn sc sm se sv sk ws wv q r (nI (H + t)) := by
  intro d
  induction d with
  | zero =>
    intro q t r ht hq hr
    obtain ⟨q, rfl⟩ : ∃ z, q = z + 1 := ⟨q - 1, by omega⟩
    have ht : t = N - H := by omega
    rw [ht] at hr
    exact br_t (nI_le (by omega) (by omega)) (hp r hr)
  | succ d ih =>
    intro q t r ht hq hr
    obtain ⟨q, rfl⟩ : ∃ z, q = z + 1 := ⟨q - 1, by omega⟩
    obtain ⟨c, h1, h4, hc, he⟩ := ho (H + t) (by omega) (by omega)
    refine br_f (nI_ge (by omega) (by omega)) (nm_r (il_and7 (by omega)) (nm_r (il_j40 _) ⟨c + 1, ?_⟩))
    refine il_nj27 (m := il_aj sc se sv H t hh) (m2 := il_aj sc se sk H t cc) hs (by omega) hc h4 he (fun r hr => ih q (t + 1) r (by omega) (by omega) ?_) c (c + 1) 0 r (by omega) (by omega) hr
    show il_fd sv sk hh cc s r (il_ap se sv (4 * ((H + t) % 8)) (sc ((H + t) % 8)).toNatClampNeg (il_aj sc se sv H t hh) s) (il_ap se sk (4 * ((H + t) % 8)) (sc ((H + t) % 8)).toNatClampNeg (il_aj sc se sk H t cc) s)
    rw [hc, nI_clamp (by omega)]
    exact hr
theorem il_nj {H N : Nat} (hHN : H ≤ N) (hN : N < 1073741824) (hs : s < 12) (ho : ∀ K, H ≤ K → K < N → il_ok sc se sv sk (K % 8)) (hp : ∀ r, il_fd sv sk hh cc s r (il_aj sc se sv H (N - H) hh s) (il_aj sc se sk H (N - H) cc s) → post r) : wpX_newestJournaled post (nI H, nI N, fw, fm, hh, cc, sn, sc, sm, se, sv, sk, ws, wv) (nI s) :=
  ⟨N - H + 1, il_nj7 hHN hN hs ho hp (N - H) (N - H + 1) 0 (-1) (by omega) (by omega) (Or.inl ⟨rfl, rfl, rfl⟩)⟩
theorem il_dg {H N : Nat} (hHN : H ≤ N) (hN : N < 1073741824) (hs : s < 12) (ho : ∀ K, H ≤ K → K < N → il_ok sc se sv sk (K % 8)) (h1 : il_aj sc se sk H (N - H) cc s = il_ck (nI s) (il_aj sc se sv H (N - H) hh s) → post 1) (h0 : il_aj sc se sk H (N - H) cc s ≠ il_ck (nI s) (il_aj sc se sv H (N - H) hh s) → post 0) : wpX_durableGood post (nI H, nI N, fw, fm, hh, cc, sn, sc, sm, se, sv, sk, ws, wv) (nI s) := by
  unfold wpX_durableGood
  dsimp only
  refine il_nj hHN hN hs ho fun r hr => ?_
  rcases hr with ⟨er, e1, e2⟩ | ⟨p, hp, er, e1, e2, e3⟩
  · rw [er]
    rw [e1, e2] at h1 h0
    exact br_t (by decide) (il_da hs (fun e => br_t rfl (h1 e)) (fun e => br_f (by decide) (h0 e)))
  · rw [er]
    exact br_f (nI_pos (by omega)) (h1 (by rw [e2, e3, e1]))
theorem il_dv {H N : Nat} (hHN : H ≤ N) (hN : N < 1073741824) (hs : s < 12) (ho : ∀ K, H ≤ K → K < N → il_ok sc se sv sk (K % 8)) (h1 : post (il_aj sc se sv H (N - H) hh s)) : wpX_durableValue post (nI H, nI N, fw, fm, hh, cc, sn, sc, sm, se, sv, sk, ws, wv) (nI s) := by
  have hv : vp_in (nI s) 12 := vp_in_nI hs (by omega)
  have cl : (nI s).toNatClampNeg = s := nI_clamp (by omega)
  unfold wpX_durableValue
  dsimp only
  refine il_nj hHN hN hs ho fun r hr => ?_
  rcases hr with ⟨er, e1, e2⟩ | ⟨p, hp, er, e1, e2, e3⟩
  · rw [er, cl]
    rw [e1] at h1
    exact br_t (by decide) ⟨hv, h1⟩
  · rw [er]
    rw [e1] at h1
    refine br_f (nI_pos (by omega)) ⟨vp_in_nI hp (by omega), ?_⟩
    rw [nI_clamp (by omega)]
    exact h1
end
section
variable {post : Int32 → Prop} {fc fd x : Int32} {ys yv kp dm : Nat → Int32} {s W : Nat}
theorem il_ys (hs : s < 12) (hp : post 1) : wpY_isSector post (fc, fd, ys, yv, kp, dm) (nI s) := by
  unfold wpY_isSector
  dsimp only
  exact br_f (nI_pos (by omega)) (br_f (nI_nlt (a := 11) (b := s) (by omega) (by omega)) hp)
theorem il_yb (hx : ∀ s, s < 12 → x ≠ nI s) (hp : post 0) : wpY_isSector post (fc, fd, ys, yv, kp, dm) x := by
  unfold wpY_isSector
  dsimp only
  refine br_c (fun _ => hp) fun h => ?_
  obtain ⟨j, hj, e⟩ := nI_of h
  subst e
  exact pk_lt 11 j (fun _ => hp) (fun g => absurd rfl (hx j (by omega))) rfl rfl (by omega) hj
theorem il_yn4 (hW : W ≤ 20) (hp : post (il_nw ys x W)) : ∀ d q i, i + d = W → d < q → wY_newest_4 post x (nI W) fd ys yv kp dm q (il_nw ys x i) (nI i) := by
  intro d
  induction d with
  | zero =>
    intro q i hi hq
    obtain ⟨q, rfl⟩ : ∃ z, q = z + 1 := ⟨q - 1, by omega⟩
    have hi : i = W := by omega
    rw [hi]
    exact br_t (nI_le (by omega) (by omega)) hp
  | succ d ih =>
    intro q i hi hq
    obtain ⟨q, rfl⟩ : ∃ z, q = z + 1 := ⟨q - 1, by omega⟩
    have cl : (nI i).toNatClampNeg = i := nI_clamp (by omega)
    have ih' := ih q (i + 1) (by omega) (by omega)
    refine br_f (nI_ge (by omega) (by omega)) ⟨vp_in_nI (by omega) (by omega), br_c (fun e => ?_) (fun e => ?_)⟩
    · rw [cl] at e
      rw [show il_nw ys x (i + 1) = nI i from if_pos e] at ih'
      exact nm_r (nI_1 i) ih'
    · rw [cl] at e
      rw [show il_nw ys x (i + 1) = il_nw ys x i from if_neg e] at ih'
      exact nm_r (nI_1 i) ih'
theorem il_yn (hW : W ≤ 20) (hp : post (il_nw ys x W)) : wpY_newest post (nI W, fd, ys, yv, kp, dm) x :=
  ⟨W + 1, il_yn4 hW hp W (W + 1) 0 (by omega) (by omega)⟩
theorem il_yrb (hx : ∀ s, s < 12 → x ≠ nI s) (hp : post 0) : wpY_readable post (fc, fd, ys, yv, kp, dm) x := by
  unfold wpY_readable
  dsimp only
  exact il_yb hx (br_t rfl hp)
theorem il_yrd (hs : s < 12) (hW : W ≤ 20) (h1 : ∀ p, p < W → il_nw ys (nI s) W = nI p → post 1) (h2 : il_nw ys (nI s) W = -1 → dm s = 0 → post 1) (h3 : il_nw ys (nI s) W = -1 → dm s ≠ 0 → post 0) : wpY_readable post (nI W, fd, ys, yv, kp, dm) (nI s) := by
  have hv : vp_in (nI s) 12 := vp_in_nI hs (by omega)
  have cl : (nI s).toNatClampNeg = s := nI_clamp (by omega)
  unfold wpY_readable
  dsimp only
  rw [cl]
  refine il_ys hs (br_f (by decide) (il_yn hW ?_))
  rcases il_nw_c ys (nI s) W with h | ⟨p, hp, h⟩
  · rw [h]
    exact br_f (by decide) ⟨hv, br_c (fun e => h2 h e) (fun e => h3 h e)⟩
  · rw [h]
    exact br_t (nI_pos' (by omega)) (h1 p hp h)
theorem il_yrs (hs : s < 12) (hW : W ≤ 20) (h1 : ∀ p, p < W → il_nw ys (nI s) W = nI p → post (yv p)) (h2 : il_nw ys (nI s) W = -1 → dm s = 0 → post (kp s)) (h3 : il_nw ys (nI s) W = -1 → dm s ≠ 0 → post 0) : wpY_read post (nI W, fd, ys, yv, kp, dm) (nI s) := by
  have hv : vp_in (nI s) 12 := vp_in_nI hs (by omega)
  have cl : (nI s).toNatClampNeg = s := nI_clamp (by omega)
  unfold wpY_read
  dsimp only
  rw [cl]
  refine il_yrd hs hW (fun p hp e => br_f (by decide) (il_yn hW ?_)) (fun e g => br_f (by decide) (il_yn hW ?_)) (fun e g => br_t rfl (h3 e g))
  · rw [e]
    refine br_f (nI_pos (by omega)) ⟨vp_in_nI (by omega) (by omega), ?_⟩
    rw [nI_clamp (by omega)]
    exact h1 p hp e
  · rw [e]
    exact br_t (by decide) ⟨hv, h2 e g⟩
end
end
section
/-! clamping, and the reference's flushSome -/
theorem il_cp0 {a b : Nat → Int32} {n i : Nat} (h : i < n) : il_cp a 0 b n i = b i := by
  have := il_cp_in (a := a) (b := b) (p := 0) n i h
  rw [Nat.zero_add] at this
  exact this
section
variable {W : Nat} {x : Int32}
theorem il_cl (hW : W ≤ 20) : ∃ m, m ≤ W ∧ (∀ (post : Int32 → Prop) (hf ns fm : Int32) (hh cc sn sc sm se sv sk ws wv : Nat → Int32), post (nI m) → wpX_clampWaiting post (hf, ns, nI W, fm, hh, cc, sn, sc, sm, se, sv, sk, ws, wv) x) ∧ (∀ (post : Int32 → Prop) (fd : Int32) (ys yv kp dm : Nat → Int32), post (nI m) → wpY_adjusted post (nI W, fd, ys, yv, kp, dm) x) := by
  by_cases h0 : 0 ≤ x
  · obtain ⟨j, hj, rfl⟩ := nI_of (Int32.not_lt.mpr h0)
    by_cases h : j ≤ W
    · exact ⟨j, h, fun _ _ _ _ _ _ _ _ _ _ _ _ _ _ hp => br_t h0 (br_t (nI_le h (by omega)) hp), fun _ _ _ _ _ _ hp => br_t h0 (br_t (nI_le h (by omega)) hp)⟩
    · exact ⟨W, Nat.le_refl W, fun _ _ _ _ _ _ _ _ _ _ _ _ _ _ hp => br_t h0 (br_f (nI_ge (by omega) hj) hp), fun _ _ _ _ _ _ hp => br_t h0 (br_f (nI_ge (by omega) hj) hp)⟩
  · exact ⟨0, by omega, fun _ _ _ _ _ _ _ _ _ _ _ _ _ _ hp => br_f h0 hp, fun _ _ _ _ _ _ hp => br_f h0 hp⟩
end
section
variable {post : Int32 → SY → Prop} {fd x : Int32} {ys yv kp dm : Nat → Int32} {m W : Nat}
theorem il_y70 (hm : m ≤ W) (hW : W ≤ 20) (hp : post (nI m) (nI (W - m), fd, il_cp ys 0 (fun a => ys (a + m)) (W - m), il_cp yv 0 (fun a => yv (a + m)) (W - m), kp, dm)) : ∀ d q i, i + d = W - m → d < q → wY_flushSome_70 post (nI m) (nI (W - m)) fd q (nI i) (il_cp ys 0 (fun a => ys (a + m)) i) (il_cp yv 0 (fun a => yv (a + m)) i) kp dm := by
  intro d
  induction d with
  | zero =>
    intro q i hi hq
    obtain ⟨q, rfl⟩ : ∃ z, q = z + 1 := ⟨q - 1, by omega⟩
    have hi : i = W - m := by omega
    rw [hi]
    exact br_t (nI_le (by omega) (by omega)) hp
  | succ d ih =>
    intro q i hi hq
    obtain ⟨q, rfl⟩ : ∃ z, q = z + 1 := ⟨q - 1, by omega⟩
    have cl : (nI i).toNatClampNeg = i := nI_clamp (by omega)
    have clm : (nI i + nI m).toNatClampNeg = i + m := by rw [nI_add]; exact nI_clamp (by omega)
    have h20 : vp_in (nI i) 20 := vp_in_nI (by omega) (by omega)
    have hm20 : vp_in (nI i + nI m) 20 := by rw [nI_add]; exact vp_in_nI (by omega) (by omega)
    have q1 : ∀ a : Nat → Int32, upd (il_cp a 0 (fun b => a (b + m)) i) (nI i).toNatClampNeg (il_cp a 0 (fun b => a (b + m)) i (nI i + nI m).toNatClampNeg) = il_cp a 0 (fun b => a (b + m)) (i + 1) := fun a => by
      show _ = upd _ (0 + i) _
      rw [cl, clm, il_cp_out i (i + m) (by omega), Nat.zero_add]
    exact br_f (nI_ge (by omega) (by omega)) ⟨hm20, h20, nm_r (q1 ys) ⟨hm20, h20, nm_r (q1 yv) (nm_r (nI_1 i) (ih q (i + 1) (by omega) (by omega)))⟩⟩
theorem il_y8 (hm : m ≤ W) (hW : W ≤ 20) (hw : ∀ a, a < m → ∃ s, s < 12 ∧ ys a = nI s) (hp : post (nI m) (nI (W - m), fd + nI m, il_cp ys 0 (fun a => ys (a + m)) (W - m), il_cp yv 0 (fun a => yv (a + m)) (W - m), il_ap ys yv 0 m kp, il_ap ys (fun _ => 0) 0 m dm)) : ∀ d q i, i + d = m → d < q → wY_flushSome_8 post (nI m) (nI W) fd q (nI i) ys yv (il_ap ys yv 0 i kp) (il_ap ys (fun _ => 0) 0 i dm) := by
  intro d
  induction d with
  | zero =>
    intro q i hi hq
    obtain ⟨q, rfl⟩ : ∃ z, q = z + 1 := ⟨q - 1, by omega⟩
    have hi : i = m := by omega
    rw [hi]
    exact br_t (nI_le (by omega) (by omega)) (nm_e (nm_r (pk_sub hm) ⟨W - m + 1, il_y70 hm hW hp (W - m) (W - m + 1) 0 (by omega) (by omega)⟩))
  | succ d ih =>
    intro q i hi hq
    obtain ⟨q, rfl⟩ : ∃ z, q = z + 1 := ⟨q - 1, by omega⟩
    have cl : (nI i).toNatClampNeg = i := nI_clamp (by omega)
    have h20 : vp_in (nI i) 20 := vp_in_nI (by omega) (by omega)
    have h12 : vp_in (ys (nI i).toNatClampNeg) 12 := by
      obtain ⟨s, hs, es⟩ := hw i (by omega)
      rw [cl, es]
      exact vp_in_nI hs (by omega)
    have q1 : ∀ a b : Nat → Int32, upd (il_ap ys a 0 i b) (ys (nI i).toNatClampNeg).toNatClampNeg (a (nI i).toNatClampNeg) = il_ap ys a 0 (i + 1) b := fun a b => by
      show _ = upd _ (ys (0 + i)).toNatClampNeg (a (0 + i))
      rw [cl, Nat.zero_add]
    exact br_f (nI_ge (by omega) (by omega)) ⟨h20, h20, h12, nm_r (q1 yv kp) ⟨h20, h12, nm_r (q1 (fun _ => 0) dm) (nm_r (nI_1 i) (ih q (i + 1) (by omega) (by omega)))⟩⟩
theorem il_yf (hm : m ≤ W) (hW : W ≤ 20) (hw : ∀ a, a < m → ∃ s, s < 12 ∧ ys a = nI s) (hc : ∀ post' : Int32 → Prop, post' (nI m) → wpY_adjusted post' (nI W, fd, ys, yv, kp, dm) x) (hp : post (nI m) (nI (W - m), fd + nI m, il_cp ys 0 (fun a => ys (a + m)) (W - m), il_cp yv 0 (fun a => yv (a + m)) (W - m), il_ap ys yv 0 m kp, il_ap ys (fun _ => 0) 0 m dm)) : wpY_flushSome post (nI W, fd, ys, yv, kp, dm) x := by
  unfold wpY_flushSome
  dsimp only
  exact hc _ ⟨m + 1, il_y8 hm hW hw hp m (m + 1) 0 (by omega) (by omega)⟩
end
end
section
/-! the relation, the lockstep loops, and lemmas for the owed statements -/
theorem il_nm1 {p : Nat} (h : p < 2147483648) : nI p ≠ -1 := fun e => nI_pos (n := p) (by omega) (by rw [e]; decide)
/-- the two states at naturals H (home from), N (next section), W (waiting) -/
def il_R (k H N W : Nat) (hh cc sn sc sm se sv sk ws wv ys yv kp dm : Nat → Int32) : Prop := N ≤ 2 * k ∧ W ≤ 20 ∧ il_M H N hh cc sn sc sm se sv sk kp dm ∧ il_W W ws wv ys yv
def i_Rel (k : Nat) (u : SX) (v : SY) : Prop := ∃ (H N W : Nat) (fm : Int32) (hh cc sn sc sm se sv sk ws wv ys yv kp dm : Nat → Int32), il_R k H N W hh cc sn sc sm se sv sk ws wv ys yv kp dm ∧ u = (nI H, nI N, nI W, fm, hh, cc, sn, sc, sm, se, sv, sk, ws, wv) ∧ v = (nI W, fm, ys, yv, kp, dm)
theorem il_in {k H N W : Nat} {fm : Int32} {hh cc sn sc sm se sv sk ws wv ys yv kp dm : Nat → Int32} (h : il_R k H N W hh cc sn sc sm se sv sk ws wv ys yv kp dm) : i_Rel k (nI H, nI N, nI W, fm, hh, cc, sn, sc, sm, se, sv, sk, ws, wv) (nI W, fm, ys, yv, kp, dm) :=
  ⟨H, N, W, fm, hh, cc, sn, sc, sm, se, sv, sk, ws, wv, ys, yv, kp, dm, h, rfl, rfl⟩
theorem il_el {P : SX → SY → Prop} {k : Nat} {u : SX} {v : SY} (I : i_Rel k u v) (h : ∀ (H N W : Nat) (fm : Int32) (hh cc sn sc sm se sv sk ws wv ys yv kp dm : Nat → Int32), il_R k H N W hh cc sn sc sm se sv sk ws wv ys yv kp dm → P (nI H, nI N, nI W, fm, hh, cc, sn, sc, sm, se, sv, sk, ws, wv) (nI W, fm, ys, yv, kp, dm)) : P u v :=
  I.elim fun H I => I.elim fun N I => I.elim fun W I => I.elim fun fm I => I.elim fun hh I => I.elim fun cc I => I.elim fun sn I => I.elim fun sc I => I.elim fun sm I => I.elim fun se I => I.elim fun sv I => I.elim fun sk I => I.elim fun ws I => I.elim fun wv I => I.elim fun ys I => I.elim fun yv I => I.elim fun kp I => I.elim fun dm I => by
    rw [I.2.1, I.2.2]
    exact h H N W fm hh cc sn sc sm se sv sk ws wv ys yv kp dm I.1
section
variable {k H N W H' N' m : Nat} {hh cc sn sc sm se sv sk ws wv ys yv kp dm : Nat → Int32}
theorem il_R_up (h : il_R k H N W hh cc sn sc sm se sv sk ws wv ys yv kp dm) : il_R (k + 3) H N W hh cc sn sc sm se sv sk ws wv ys yv kp dm := ⟨by have := h.1; omega, h.2⟩
theorem il_W_ap (h : il_W W ws wv ys yv) (hm : m ≤ W) : il_ap ws wv 0 m kp = il_ap ys yv 0 m kp ∧ il_ap ws (fun _ => 0) 0 m dm = il_ap ys (fun _ => 0) 0 m dm :=
  ⟨il_ap_congr m fun a ha => by rw [Nat.zero_add]; exact ⟨(h a (by omega)).1, (h a (by omega)).2.1⟩, il_ap_congr m fun a ha => by rw [Nat.zero_add]; exact ⟨(h a (by omega)).1, rfl⟩⟩
theorem il_W_x (h : il_W W ws wv ys yv) (hm : m ≤ W) : ∀ a, a < m → ∃ s, s < 12 ∧ ws a = nI s := fun a ha => by
  rw [(h a (by omega)).1]; exact (h a (by omega)).2.2
theorem il_W_y (h : il_W W ws wv ys yv) (hm : m ≤ W) : ∀ a, a < m → ∃ s, s < 12 ∧ ys a = nI s := fun a ha => (h a (by omega)).2.2
theorem il_R_fl {hh' cc' sn' sc' sm' se' sv' sk' : Nat → Int32} (h : il_R k H N W hh cc sn sc sm se sv sk ws wv ys yv kp dm) (hm : m ≤ W) (hN : N' ≤ N + 5) (hM : il_M H' N' hh' cc' sn' sc' sm' se' sv' sk' (il_ap ws wv 0 m kp) (il_ap ws (fun _ => 0) 0 m dm)) : il_R (k + 3) H' N' (W - m) hh' cc' sn' sc' sm' se' sv' sk' (il_cp ws 0 (fun a => ws (a + m)) (W - m)) (il_cp wv 0 (fun a => wv (a + m)) (W - m)) (il_cp ys 0 (fun a => ys (a + m)) (W - m)) (il_cp yv 0 (fun a => yv (a + m)) (W - m)) (il_ap ys yv 0 m kp) (il_ap ys (fun _ => 0) 0 m dm) := by
  obtain ⟨h1, h2, _, hw⟩ := h
  rw [(il_W_ap (kp := kp) (dm := dm) hw hm).1, (il_W_ap (kp := kp) (dm := dm) hw hm).2] at hM
  refine ⟨by omega, by omega, hM, fun i hi => ?_⟩
  rw [il_cp0 hi, il_cp0 hi, il_cp0 hi, il_cp0 hi]
  exact hw (i + m) (by omega)
theorem il_R_cr {hh' cc' sn' sc' sm' se' sv' sk' ys' yv' : Nat → Int32} (h : il_R k H N W hh cc sn sc sm se sv sk ws wv ys yv kp dm) (hm : m ≤ W) (hN : N' ≤ N + 5) (hM : il_M H' N' hh' cc' sn' sc' sm' se' sv' sk' (il_ap ws wv 0 m kp) (il_ap ws (fun _ => 0) 0 m dm)) : il_R (k + 3) H' N' 0 hh' cc' sn' sc' sm' se' sv' sk' ws wv ys' yv' (il_ap ys yv 0 m kp) (il_ap ys (fun _ => 0) 0 m dm) := by
  obtain ⟨h1, h2, _, hw⟩ := h
  rw [(il_W_ap (kp := kp) (dm := dm) hw hm).1, (il_W_ap (kp := kp) (dm := dm) hw hm).2] at hM
  exact ⟨by omega, by omega, hM, fun i hi => by omega⟩
theorem il_R_wr {s : Nat} {z : Int32} (h : il_R k H N W hh cc sn sc sm se sv sk ws wv ys yv kp dm) (hs : s < 12) (hW : W < 20) : il_R (k + 3) H N (W + 1) hh cc sn sc sm se sv sk (upd ws W (nI s)) (upd wv W z) (upd ys W (nI s)) (upd yv W z) kp dm := by
  obtain ⟨h1, h2, h3, hw⟩ := h
  refine ⟨by omega, by omega, h3, fun i hi => ?_⟩
  by_cases e : i = W
  · subst e
    rw [pk_us, pk_us, pk_us, pk_us]
    exact ⟨rfl, rfl, s, hs, rfl⟩
  · rw [pk_un e, pk_un e, pk_un e, pk_un e]
    exact hw i (by omega)
theorem il_R_home {hh' cc' kp' dm' : Nat → Int32} (h : il_R k H N W hh cc sn sc sm se sv sk ws wv ys yv kp dm) (hM : il_M N N hh' cc' sn sc sm se sv sk kp' dm') : il_R (k + 3) N N W hh' cc' sn sc sm se sv sk ws wv ys yv kp' dm' := ⟨by have := h.1; omega, h.2.1, hM, h.2.2.2⟩
end
section
variable {post : Int32 → SX → Prop} {hf ns fw fm : Int32} {hh cc sn sc sm se sv sk ws wv kp dm : Nat → Int32} {H N : Nat} {x : Int32}
theorem il_cr28 (hM : il_M H N hh cc sn sc sm se sv sk kp dm) (hN : N < 1073741824) (hp : ∀ hh' cc', il_M N N hh' cc' sn sc sm se sv sk kp dm → post x (nI N, nI N, 0, fm, hh', cc', sn, sc, sm, se, sv, sk, ws, wv)) : wX_crash_28 post x (nI H) ns fw fm hh cc sn sc sm se sv sk ws wv := by
  unfold wX_crash_28
  exact il_rp hM hN (hp _ _ (il_M_home hM))
end
section
variable {hf ns fw fm fc fd : Int32} {hh cc sn sc sm se sv sk ws wv ys yv kp dm : Nat → Int32} {H N W : Nat}
theorem il_sb (hk : il_KD hh cc kp dm) : ∀ d s (z : Int32), s + d = 12 → ∃ r, (∀ post : Int32 → SX → Prop, post r (hf, ns, fw, fm, hh, cc, sn, sc, sm, se, sv, sk, ws, wv) → wX_scrub_8 post hf ns fw fm hh cc sn sc sm se sv sk ws wv (d + 1) z (nI s)) ∧ (∀ post : Int32 → Prop, post r → wY_scrub_4 post fc fd ys yv kp dm (d + 1) z (nI s)) := by
  intro d
  induction d with
  | zero =>
    intro s z hs
    have h : (12 : Int32) ≤ nI s := nI_le (a := 12) (by omega) (by omega)
    exact ⟨z, fun _ hp => br_t h hp, fun _ hp => br_t h hp⟩
  | succ d ih =>
    intro s z hs
    have h : ¬ (12 : Int32) ≤ nI s := nI_ge (b := 12) (by omega) (by omega)
    have h12 : s < 12 := by omega
    have hv : vp_in (nI s) 12 := vp_in_nI h12 (by omega)
    have cl : (nI s).toNatClampNeg = s := nI_clamp (by omega)
    rcases hk s h12 with ⟨d0, e1, e2⟩ | ⟨d1, e2⟩
    · obtain ⟨r, hX, hY⟩ := ih (s + 1) z (by omega)
      rw [← e1] at e2
      refine ⟨r, fun post hp => br_f h (il_da h12 (fun _ => br_t rfl (nm_r (nI_1 s) (hX post hp))) (fun g => absurd e2 g)), fun post hp => br_f h ⟨hv, br_t ?_ (nm_r (nI_1 s) (hY post hp))⟩⟩
      rw [cl]; exact d0
    · obtain ⟨r, hX, hY⟩ := ih (s + 1) (z + 1) (by omega)
      refine ⟨r, fun post hp => br_f h (il_da h12 (fun g => absurd g e2) (fun _ => br_f (by decide) (nm_e (nm_r (nI_1 s) (hX post hp))))), fun post hp => br_f h ⟨hv, br_f ?_ (nm_e (nm_r (nI_1 s) (hY post hp)))⟩⟩
      rw [cl, d1]; decide
theorem il_ar (hM : il_M H N hh cc sn sc sm se sv sk kp dm) (hN : N < 1073741824) (hW : W ≤ 20) (hw : il_W W ws wv ys yv) : ∀ d s (z : Int32), s + d = 12 → ∃ r, (∀ post : Int32 → Prop, post r → wX_atRisk_4 post (nI H) (nI N) (nI W) fm hh cc sn sc sm se sv sk ws wv (d + 1) z (nI s)) ∧ (∀ post : Int32 → Prop, post r → wY_atRisk_4 post (nI W) fd ys yv kp dm (d + 1) z (nI s)) := by
  have hHN := hM.1
  have ho : ∀ K, H ≤ K → K < N → il_ok sc se sv sk (K % 8) := fun K h1 h2 => (hM.2.2.1 K h1 h2).2.1
  intro d
  induction d with
  | zero =>
    intro s z hs
    have h : (12 : Int32) ≤ nI s := nI_le (a := 12) (by omega) (by omega)
    exact ⟨z, fun _ hp => br_t h hp, fun _ hp => br_t h hp⟩
  | succ d ih =>
    intro s z hs
    have h : ¬ (12 : Int32) ≤ nI s := nI_ge (b := 12) (by omega) (by omega)
    have h12 : s < 12 := by omega
    have hv : vp_in (nI s) 12 := vp_in_nI h12 (by omega)
    have cl : (nI s).toNatClampNeg = s := nI_clamp (by omega)
    have ew : il_nw ws (nI s) W = il_nw ys (nI s) W := il_nw_congr W fun i hi => (hw i hi).1
    rcases il_nw_c ys (nI s) W with e | ⟨p, hp, e⟩
    · obtain ⟨r, hX, hY⟩ := ih (s + 1) z (by omega)
      refine ⟨r, fun post hr => br_f h (il_xn hW ?_), fun post hr => br_f h (il_yn hW ?_)⟩
      · rw [ew, e]; exact br_t (by decide) (nm_r (nI_1 s) (hX post hr))
      · rw [e]; exact br_t (by decide) (nm_r (nI_1 s) (hY post hr))
    · have hp0 : ¬ nI p < 0 := nI_pos (by omega)
      have hp20 : vp_in (nI p) 20 := vp_in_nI (by omega) (by omega)
      have clp : (nI p).toNatClampNeg = p := nI_clamp (by omega)
      have hval : wv p = yv p := (hw p hp).2.1
      rcases hM.2.2.2.2.2 s h12 with ⟨d0, e1, e2⟩ | ⟨d1, e2⟩
      · have e3 := e2
        rw [← e1] at e3
        by_cases g : kp s = wv p
        · obtain ⟨r, hX, hY⟩ := ih (s + 1) z (by omega)
          refine ⟨r, fun post hr => br_f h (il_xn hW ?_), fun post hr => br_f h (il_yn hW ?_)⟩
          · rw [ew, e]
            refine br_f hp0 (il_dg hHN hN h12 ho (fun _ => il_dv hHN hN h12 ho (br_f (by decide) ⟨hp20, br_t ?_ (nm_r (nI_1 s) (hX post hr))⟩)) (fun n => absurd e3 n))
            rw [clp, e1]; exact g
          · rw [e]
            refine br_f hp0 ⟨hv, br_t (by rw [cl]; exact d0) (il_yrs h12 hW (fun p' hp' e' => ⟨hv, br_t ?_ (nm_r (nI_1 s) (hY post hr))⟩) (fun e' => absurd (e.symm.trans e') (il_nm1 (by omega))) (fun e' => absurd (e.symm.trans e') (il_nm1 (by omega))))⟩
            have ep : p' = p := (nI_eq (by omega) (by omega)).mp (e'.symm.trans e)
            rw [cl, ep, ← hval]; exact g.symm
        · obtain ⟨r, hX, hY⟩ := ih (s + 1) (z + 1) (by omega)
          refine ⟨r, fun post hr => br_f h (il_xn hW ?_), fun post hr => br_f h (il_yn hW ?_)⟩
          · rw [ew, e]
            refine br_f hp0 (il_dg hHN hN h12 ho (fun _ => il_dv hHN hN h12 ho (br_f (by decide) ⟨hp20, br_f ?_ (nm_e (nm_r (nI_1 s) (hX post hr)))⟩)) (fun n => absurd e3 n))
            rw [clp, e1]; exact g
          · rw [e]
            refine br_f hp0 ⟨hv, br_t (by rw [cl]; exact d0) (il_yrs h12 hW (fun p' hp' e' => ⟨hv, br_f ?_ (nm_e (nm_r (nI_1 s) (hY post hr)))⟩) (fun e' => absurd (e.symm.trans e') (il_nm1 (by omega))) (fun e' => absurd (e.symm.trans e') (il_nm1 (by omega))))⟩
            have ep : p' = p := (nI_eq (by omega) (by omega)).mp (e'.symm.trans e)
            rw [cl, ep, ← hval]; exact fun q => g q.symm
      · obtain ⟨r, hX, hY⟩ := ih (s + 1) (z + 1) (by omega)
        refine ⟨r, fun post hr => br_f h (il_xn hW ?_), fun post hr => br_f h (il_yn hW ?_)⟩
        · rw [ew, e]
          exact br_f hp0 (il_dg hHN hN h12 ho (fun n => absurd n e2) (fun _ => il_dv hHN hN h12 ho (br_t rfl (nm_e (nm_r (nI_1 s) (hX post hr))))))
        · rw [e]
          refine br_f hp0 ⟨hv, br_f ?_ (nm_e (nm_r (nI_1 s) (hY post hr)))⟩
          rw [cl, d1]; decide
end
section
variable {post : SX → Prop} {hf ns fw fm : Int32} {hh cc sn sc sm se sv sk ws wv : Nat → Int32}
theorem il_i111 (hp : post (hf, ns, fw, fm, hh, cc, il_cp sn 0 (fun _ => -1) 8, sc, sm, se, sv, sk, ws, wv)) : ∀ d q i, i + d = 8 → d < q → wX_init_111 post hf ns fw fm q (nI i) hh cc (il_cp sn 0 (fun _ => -1) i) sc sm se sv sk ws wv := by
  intro d
  induction d with
  | zero =>
    intro q i hi hq
    obtain ⟨q, rfl⟩ : ∃ z, q = z + 1 := ⟨q - 1, by omega⟩
    have hi : i = 8 := by omega
    rw [hi]
    exact br_t (nI_le (a := 8) (by omega) (by omega)) hp
  | succ d ih =>
    intro q i hi hq
    obtain ⟨q, rfl⟩ : ∃ z, q = z + 1 := ⟨q - 1, by omega⟩
    have q1 : upd (il_cp sn 0 (fun _ => -1) i) (nI i).toNatClampNeg (-1) = il_cp sn 0 (fun _ => -1) (i + 1) := by
      show _ = upd _ (0 + i) _
      rw [nI_clamp (by omega), Nat.zero_add]
    exact br_f (nI_ge (b := 8) (by omega) (by omega)) ⟨vp_in_nI (by omega) (by omega), nm_r q1 (nm_r (nI_1 i) (ih q (i + 1) (by omega) (by omega)))⟩
theorem il_i86 (hp : post (hf, ns, fw, fm, hh, il_cp cc 0 (fun a => il_ck (nI a) 0) 12, il_cp sn 0 (fun _ => -1) 8, sc, sm, se, sv, sk, ws, wv)) : ∀ d q i, i + d = 12 → d < q → wX_init_86 post hf ns fw fm q (nI i) hh (il_cp cc 0 (fun a => il_ck (nI a) 0) i) sn sc sm se sv sk ws wv := by
  intro d
  induction d with
  | zero =>
    intro q i hi hq
    obtain ⟨q, rfl⟩ : ∃ z, q = z + 1 := ⟨q - 1, by omega⟩
    have hi : i = 12 := by omega
    rw [hi]
    exact br_t (nI_le (a := 12) (by omega) (by omega)) ⟨9, il_i111 hp 8 9 0 (by omega) (by omega)⟩
  | succ d ih =>
    intro q i hi hq
    obtain ⟨q, rfl⟩ : ∃ z, q = z + 1 := ⟨q - 1, by omega⟩
    have q1 : upd (il_cp cc 0 (fun a => il_ck (nI a) 0) i) (nI i).toNatClampNeg (il_ck (nI i) 0) = il_cp cc 0 (fun a => il_ck (nI a) 0) (i + 1) := by
      show _ = upd _ (0 + i) _
      rw [nI_clamp (by omega), Nat.zero_add]
    refine br_f (nI_ge (b := 12) (by omega) (by omega)) ?_
    exact And.intro (vp_in_nI (by omega) (by omega)) (nm_r q1 (nm_r (nI_1 i) (ih q (i + 1) (by omega) (by omega))))
end
theorem il_R0 : il_R 0 0 0 0 (fun _ => 0) (il_cp (fun _ => 0) 0 (fun a => il_ck (nI a) 0) 12) (il_cp (fun _ => 0) 0 (fun _ => -1) 8) (fun _ => 0) (fun _ => 0) (fun _ => 0) (fun _ => 0) (fun _ => 0) (fun _ => 0) (fun _ => 0) (fun _ => 0) (fun _ => 0) (fun _ => 0) (fun _ => 0) := by
  refine ⟨by omega, by omega, ⟨by omega, by omega, fun K _ h => absurd h (Nat.not_lt_zero K), fun j hj => ?_, fun e => ?_, fun s hs => Or.inl ⟨rfl, rfl, il_cp0 hs⟩⟩, fun i hi => absurd hi (Nat.not_lt_zero i)⟩
  · rw [il_cp0 hj]; decide
  · rw [il_cp0 (by decide)] at e
    exact absurd e (by decide)
end
section
/-! the owed statements -/
theorem i_up {k : Nat} {u : SX} {v : SY} (h : i_Rel k u v) : i_Rel (k + 3) u v :=
  il_el (P := fun u v => i_Rel (k + 3) u v) h fun _ _ _ _ _ _ _ _ _ _ _ _ _ _ _ _ _ _ hR => il_in (il_R_up hR)
theorem i_vc0 : wpX_init (fun u => wpY_init (fun v => i_Rel 0 u v)) :=
  ⟨13, il_i86 (il_in (fm := 0) il_R0) 12 13 0 (by omega) (by omega)⟩
theorem i_vc_write {k : Nat} {u : SX} {v : SY} (I : i_Rel k u v) (hk : k + 3 ≤ 1536) (v1 : Int32) (v2 : Int32) : wpX_write (fun r u' => wpY_write (fun r' v' => r' = r ∧ i_Rel (k + 3) u' v') v v1 v2) u v1 v2 := by
  refine il_el (P := fun u v => wpX_write (fun r u' => wpY_write (fun r' v' => r' = r ∧ i_Rel (k + 3) u' v') v v1 v2) u v1 v2) I ?_
  intro H N W fm hh cc sn sc sm se sv sk ws wv ys yv kp dm hR
  have hW := hR.2.1
  unfold wpX_write wpY_write
  dsimp only
  by_cases hb : ∃ s, s < 12 ∧ v1 = nI s
  · obtain ⟨s, hs, rfl⟩ := hb
    refine il_xs hs (br_t rfl (pk_lt W 20 (fun h => ?_) (fun h => ?_)))
    · have hv : vp_in (nI W) 20 := vp_in_nI h (by omega)
      have cl : (nI W).toNatClampNeg = W := nI_clamp (by omega)
      rw [cl]
      refine ⟨hv, nm_e ⟨hv, nm_e (nm_r (nI_1 W) ?_)⟩⟩
      refine il_ys hs (br_f (by decide) (pk_eq W 20 (fun g => absurd g (by omega)) (fun g => ?_)))
      exact ⟨hv, nm_e ⟨hv, nm_e (nm_r (nI_1 W) ⟨rfl, il_in (il_R_wr hR hs h)⟩)⟩⟩
    · refine il_ys hs (br_f (by decide) (pk_eq W 20 (fun g => ?_) (fun g => absurd (by omega) g)))
      exact ⟨rfl, il_in (il_R_up hR)⟩
  · have hx : ∀ s, s < 12 → v1 ≠ nI s := fun s hs e => hb ⟨s, hs, e⟩
    exact il_xb hx (br_f (by decide) (il_yb hx (br_t rfl ⟨rfl, il_in (il_R_up hR)⟩)))
theorem i_vc_flush {k : Nat} {u : SX} {v : SY} (I : i_Rel k u v) (hk : k + 3 ≤ 1536) : wpX_flush (fun r u' => wpY_flush (fun r' v' => r' = r ∧ i_Rel (k + 3) u' v') v) u := by
  refine il_el (P := fun u v => wpX_flush (fun r u' => wpY_flush (fun r' v' => r' = r ∧ i_Rel (k + 3) u' v') v) u) I ?_
  intro H N W fm hh cc sn sc sm se sv sk ws wv ys yv kp dm hR
  obtain ⟨hN, hW, hM, hw⟩ := id hR
  unfold wpX_flush wpY_flush
  dsimp only
  refine il_co hW (by omega) (il_W_x hw (Nat.le_refl W)) hM fun H' N' hh' cc' sn' sc' sm' se' sv' sk' hN' hM' => ?_
  refine il_dw (Nat.le_refl W) hW ?_
  refine il_yf (Nat.le_refl W) hW (il_W_y hw (Nat.le_refl W)) (fun _ hp => br_t (nI_pos' (by omega)) (br_t (nI_le (Nat.le_refl W) (by omega)) hp)) ?_
  exact ⟨rfl, il_in (il_R_fl hR (Nat.le_refl W) hN' hM')⟩
theorem i_vc_flushSome {k : Nat} {u : SX} {v : SY} (I : i_Rel k u v) (hk : k + 3 ≤ 1536) (v1 : Int32) : wpX_flushSome (fun r u' => wpY_flushSome (fun r' v' => r' = r ∧ i_Rel (k + 3) u' v') v v1) u v1 := by
  refine il_el (P := fun u v => wpX_flushSome (fun r u' => wpY_flushSome (fun r' v' => r' = r ∧ i_Rel (k + 3) u' v') v v1) u v1) I ?_
  intro H N W fm hh cc sn sc sm se sv sk ws wv ys yv kp dm hR
  obtain ⟨hN, hW, hM, hw⟩ := id hR
  obtain ⟨m, hm, hX, hY⟩ := il_cl (x := v1) hW
  unfold wpX_flushSome
  dsimp only
  refine hX _ _ _ _ _ _ _ _ _ _ _ _ _ _ ?_
  refine il_co (by omega) (by omega) (il_W_x hw hm) hM fun H' N' hh' cc' sn' sc' sm' se' sv' sk' hN' hM' => ?_
  refine il_dw hm hW ?_
  refine il_yf hm hW (il_W_y hw hm) (fun _ hp => hY _ _ _ _ _ _ hp) ?_
  exact ⟨rfl, il_in (il_R_fl hR hm hN' hM')⟩
theorem i_vc_crash {k : Nat} {u : SX} {v : SY} (I : i_Rel k u v) (hk : k + 3 ≤ 1536) (v1 : Int32) : wpX_crash (fun r u' => wpY_crash (fun r' v' => r' = r ∧ i_Rel (k + 3) u' v') v v1) u v1 := by
  refine il_el (P := fun u v => wpX_crash (fun r u' => wpY_crash (fun r' v' => r' = r ∧ i_Rel (k + 3) u' v') v v1) u v1) I ?_
  intro H N W fm hh cc sn sc sm se sv sk ws wv ys yv kp dm hR
  obtain ⟨hN, hW, hM, hw⟩ := id hR
  obtain ⟨m, hm, hX, hY⟩ := il_cl (x := v1) hW
  unfold wpX_crash wpY_crash
  dsimp only
  refine hX _ _ _ _ _ _ _ _ _ _ _ _ _ _ ?_
  refine il_co (by omega) (by omega) (il_W_x hw hm) hM fun H' N' hh' cc' sn' sc' sm' se' sv' sk' hN' hM' => ?_
  refine nm_r (pk_sub hm) (pk_le (W - m) 0 (fun h => ?_) (fun h => ?_))
  · refine il_cr28 hM' (by omega) fun hh'' cc'' hM'' => ?_
    refine il_yf hm hW (il_W_y hw hm) (fun _ hp => hY _ _ _ _ _ _ hp) ?_
    exact ⟨rfl, il_in (W := 0) (il_R_cr hR hm hN' hM'')⟩
  · refine il_te hM' (by omega) (by omega) fun H2 hh2 cc2 sn2 sc2 sm2 se2 sv2 sk2 hM2 => ?_
    refine il_cr28 hM2 (by omega) fun hh'' cc'' hM'' => ?_
    refine il_yf hm hW (il_W_y hw hm) (fun _ hp => hY _ _ _ _ _ _ hp) ?_
    exact ⟨rfl, il_in (W := 0) (il_R_cr hR hm hN' hM'')⟩
theorem i_vc_damage {k : Nat} {u : SX} {v : SY} (I : i_Rel k u v) (hk : k + 3 ≤ 1536) (v1 : Int32) (v2 : Int32) : wpX_damage (fun r u' => wpY_damage (fun r' v' => r' = r ∧ i_Rel (k + 3) u' v') v v1 v2) u v1 v2 := by
  refine il_el (P := fun u v => wpX_damage (fun r u' => wpY_damage (fun r' v' => r' = r ∧ i_Rel (k + 3) u' v') v v1 v2) u v1 v2) I ?_
  intro H N W fm hh cc sn sc sm se sv sk ws wv ys yv kp dm hR
  obtain ⟨hN, hW, hM, hw⟩ := id hR
  unfold wpX_damage wpY_damage
  dsimp only
  by_cases hb : ∃ s, s < 12 ∧ v1 = nI s
  · obtain ⟨s, hs, rfl⟩ := hb
    have hv : vp_in (nI s) 12 := vp_in_nI hs (by omega)
    have cl : (nI s).toNatClampNeg = s := nI_clamp (by omega)
    refine il_xs hs (br_t rfl (il_ch hM.1 (by omega) (fun K h1 h2 => (hM.2.2.1 K h1 h2).2.1) ?_))
    have hM' := il_M_home hM
    dsimp only
    generalize il_aj sc se sv H (N - H) hh = hh' at hM' ⊢
    generalize il_aj sc se sk H (N - H) cc = cc' at hM' ⊢
    have hk' := il_M_kd hM'
    have key : ∀ q, q < 12 → q ≠ s → ∀ a b : Int32, (upd dm s a q = 0 ∧ upd hh' s b q = kp q ∧ cc' q = il_ck (nI q) (kp q)) ∨ (upd dm s a q = 1 ∧ cc' q ≠ il_ck (nI q) (upd hh' s b q)) := fun q hq e a b => by
      rw [pk_un e, pk_un e]; exact hk' q hq
    rcases hk' s hs with ⟨d0, e1, e2⟩ | ⟨d1, e2⟩
    · have e3 := e2
      rw [← e1] at e3
      refine il_da hs (fun _ => br_t rfl ⟨hv, hv, nm_e ?_⟩) (fun n => absurd e3 n)
      rw [cl]
      refine br_t rfl (br_c (fun e => ?_) (fun e => ?_))
      · refine il_ys hs (br_f (by decide) (br_t e (And.intro hv (br_t (by rw [cl]; exact d0) ⟨rfl, il_in (il_R_home hR (il_M_chg hM' ?_))⟩))))
        have ed : upd dm s 0 = dm := funext fun q => by
          by_cases g : q = s
          · rw [g, pk_us, d0]
          · rw [pk_un g]
        intro q hq
        by_cases g : q = s
        · rw [g, pk_us, e, Int32.xor_zero]; exact hk' s hs
        · have := key q hq g 0 (hh' s ^^^ v2)
          rw [ed] at this; exact this
      · refine il_ys hs (br_f (by decide) (br_f e ⟨hv, nm_r (e' := upd dm s 1) rfl (And.intro hv (br_f (by rw [cl, pk_us]; decide) ⟨rfl, il_in (il_R_home hR (il_M_chg hM' ?_))⟩))⟩))
        intro q hq
        by_cases g : q = s
        · rw [g, pk_us, pk_us]
          exact Or.inr ⟨rfl, fun w => e (il_xor (x := hh' s) (il_ck_inj (s := nI s) (w.symm.trans e3)))⟩
        · exact key q hq g 1 (hh' s ^^^ v2)
    · have ed : upd dm s 1 = dm := funext fun q => by
        by_cases g : q = s
        · rw [g, pk_us, d1]
        · rw [pk_un g]
      refine il_da hs (fun n => absurd n e2) (fun _ => br_f (by decide) (br_f (by decide) ?_))
      refine il_ys hs (br_f (by decide) (br_c (fun e => ?_) (fun e => ?_)))
      · exact And.intro hv (br_f (by rw [cl, d1]; decide) ⟨rfl, il_in (il_R_home hR hM')⟩)
      · refine ⟨hv, nm_r (e' := dm) (by rw [cl]; exact ed) (And.intro hv (br_f (by rw [cl, d1]; decide) ⟨rfl, il_in (il_R_home hR hM')⟩))⟩
  · have hx : ∀ s, s < 12 → v1 ≠ nI s := fun s hs e => hb ⟨s, hs, e⟩
    exact il_xb hx (br_f (by decide) (il_yb hx (br_t rfl ⟨rfl, il_in (il_R_up hR)⟩)))
theorem i_vc_scrub {k : Nat} {u : SX} {v : SY} (I : i_Rel k u v) (hk : k + 3 ≤ 1536) : wpX_scrub (fun r u' => wpY_scrub (fun r' => r' = r ∧ i_Rel (k + 3) u' v) v) u := by
  refine il_el (P := fun u v => wpX_scrub (fun r u' => wpY_scrub (fun r' => r' = r ∧ i_Rel (k + 3) u' v) v) u) I ?_
  intro H N W fm hh cc sn sc sm se sv sk ws wv ys yv kp dm hR
  obtain ⟨hN, hW, hM, hw⟩ := id hR
  unfold wpX_scrub wpY_scrub
  dsimp only
  refine il_ch hM.1 (by omega) (fun K h1 h2 => (hM.2.2.1 K h1 h2).2.1) ?_
  have hM' := il_M_home hM
  dsimp only
  obtain ⟨r, hX, hY⟩ := il_sb (hf := nI N) (ns := nI N) (fw := nI W) (fm := fm) (fc := nI W) (fd := fm) (sn := sn) (sc := sc) (sm := sm) (se := se) (sv := sv) (sk := sk) (ws := ws) (wv := wv) (ys := ys) (yv := yv) (il_M_kd hM') 12 0 0 (by omega)
  exact ⟨13, hX _ ⟨13, hY _ ⟨rfl, il_in (il_R_home hR hM')⟩⟩⟩
theorem i_vc_read {k : Nat} {u : SX} {v : SY} (I : i_Rel k u v) (hk : k + 3 ≤ 1536) (v1 : Int32) : wpX_read (fun r => wpY_read (fun r' => r' = r ∧ i_Rel (k + 3) u v) v v1) u v1 := by
  refine il_el (P := fun u v => wpX_read (fun r => wpY_read (fun r' => r' = r ∧ i_Rel (k + 3) u v) v v1) u v1) I ?_
  intro H N W fm hh cc sn sc sm se sv sk ws wv ys yv kp dm hR
  obtain ⟨hN, hW, hM, hw⟩ := id hR
  have hI := il_in (fm := fm) (il_R_up hR)
  have ho : ∀ K, H ≤ K → K < N → il_ok sc se sv sk (K % 8) := fun K h1 h2 => (hM.2.2.1 K h1 h2).2.1
  unfold wpX_read
  dsimp only
  by_cases hb : ∃ s, s < 12 ∧ v1 = nI s
  · obtain ⟨s, hs, rfl⟩ := hb
    refine il_xs hs (br_t rfl (il_xn hW ?_))
    rw [show il_nw ws (nI s) W = il_nw ys (nI s) W from il_nw_congr W fun i hi => (hw i hi).1]
    rcases il_nw_c ys (nI s) W with e | ⟨p, hp, e⟩
    · rw [e]
      refine br_t (by decide) ?_
      rcases hM.2.2.2.2.2 s hs with ⟨d0, e1, e2⟩ | ⟨d1, e2⟩
      · have e3 := e2
        rw [← e1] at e3
        refine il_dg hM.1 (by omega) hs ho (fun _ => br_f (by decide) (il_dv hM.1 (by omega) hs ho ?_)) (fun n => absurd e3 n)
        exact il_yrs hs hW (fun p hp e' => absurd (e'.symm.trans e) (il_nm1 (by omega))) (fun _ _ => ⟨e1.symm, hI⟩) (fun _ n => absurd d0 n)
      · refine il_dg hM.1 (by omega) hs ho (fun n => absurd n e2) (fun _ => br_t rfl ?_)
        exact il_yrs hs hW (fun p hp e' => absurd (e'.symm.trans e) (il_nm1 (by omega))) (fun _ n => absurd (n.symm.trans d1) (by decide)) (fun _ _ => ⟨rfl, hI⟩)
    · rw [e]
      refine br_f (nI_pos (by omega)) ⟨vp_in_nI (by omega) (by omega), ?_⟩
      rw [nI_clamp (by omega)]
      refine il_yrs hs hW (fun p' hp' e' => ?_) (fun e' => absurd (e.symm.trans e') (il_nm1 (by omega))) (fun e' => absurd (e.symm.trans e') (il_nm1 (by omega)))
      have ep : p' = p := (nI_eq (by omega) (by omega)).mp (e'.symm.trans e)
      rw [ep]
      exact ⟨(hw p hp).2.1.symm, hI⟩
  · have hx : ∀ s, s < 12 → v1 ≠ nI s := fun s hs e => hb ⟨s, hs, e⟩
    refine il_xb hx (br_f (by decide) ?_)
    unfold wpY_read
    dsimp only
    exact il_yrb hx (br_t rfl ⟨rfl, hI⟩)
theorem i_vc_readable {k : Nat} {u : SX} {v : SY} (I : i_Rel k u v) (hk : k + 3 ≤ 1536) (v1 : Int32) : wpX_readable (fun r => wpY_readable (fun r' => r' = r ∧ i_Rel (k + 3) u v) v v1) u v1 := by
  refine il_el (P := fun u v => wpX_readable (fun r => wpY_readable (fun r' => r' = r ∧ i_Rel (k + 3) u v) v v1) u v1) I ?_
  intro H N W fm hh cc sn sc sm se sv sk ws wv ys yv kp dm hR
  obtain ⟨hN, hW, hM, hw⟩ := id hR
  have hI := il_in (fm := fm) (il_R_up hR)
  have ho : ∀ K, H ≤ K → K < N → il_ok sc se sv sk (K % 8) := fun K h1 h2 => (hM.2.2.1 K h1 h2).2.1
  unfold wpX_readable
  dsimp only
  by_cases hb : ∃ s, s < 12 ∧ v1 = nI s
  · obtain ⟨s, hs, rfl⟩ := hb
    refine il_xs hs (br_t rfl (il_xn hW ?_))
    rw [show il_nw ws (nI s) W = il_nw ys (nI s) W from il_nw_congr W fun i hi => (hw i hi).1]
    rcases il_nw_c ys (nI s) W with e | ⟨p, hp, e⟩
    · rw [e]
      refine br_f (by decide) ?_
      rcases hM.2.2.2.2.2 s hs with ⟨d0, e1, e2⟩ | ⟨d1, e2⟩
      · have e3 := e2
        rw [← e1] at e3
        refine il_dg hM.1 (by omega) hs ho (fun _ => br_f (by decide) ?_) (fun n => absurd e3 n)
        exact il_yrd hs hW (fun p hp e' => absurd (e'.symm.trans e) (il_nm1 (by omega))) (fun _ _ => ⟨rfl, hI⟩) (fun _ n => absurd d0 n)
      · refine il_dg hM.1 (by omega) hs ho (fun n => absurd n e2) (fun _ => br_t rfl ?_)
        exact il_yrd hs hW (fun p hp e' => absurd (e'.symm.trans e) (il_nm1 (by omega))) (fun _ n => absurd (n.symm.trans d1) (by decide)) (fun _ _ => ⟨rfl, hI⟩)
    · rw [e]
      refine br_t (nI_pos' (by omega)) ?_
      exact il_yrd hs hW (fun _ _ _ => ⟨rfl, hI⟩) (fun e' => absurd (e.symm.trans e') (il_nm1 (by omega))) (fun e' => absurd (e.symm.trans e') (il_nm1 (by omega)))
  · have hx : ∀ s, s < 12 → v1 ≠ nI s := fun s hs e => hb ⟨s, hs, e⟩
    refine il_xb hx (br_f (by decide) ?_)
    exact il_yrb hx ⟨rfl, hI⟩
theorem i_vc_pending {k : Nat} {u : SX} {v : SY} (I : i_Rel k u v) (hk : k + 3 ≤ 1536) : wpX_pending (fun r => wpY_pending (fun r' => r' = r ∧ i_Rel (k + 3) u v) v) u :=
  il_el (P := fun u v => wpX_pending (fun r => wpY_pending (fun r' => r' = r ∧ i_Rel (k + 3) u v) v) u) I fun _ _ _ _ _ _ _ _ _ _ _ _ _ _ _ _ _ _ hR => And.intro rfl (il_in (il_R_up hR))
theorem i_vc_atRisk {k : Nat} {u : SX} {v : SY} (I : i_Rel k u v) (hk : k + 3 ≤ 1536) : wpX_atRisk (fun r => wpY_atRisk (fun r' => r' = r ∧ i_Rel (k + 3) u v) v) u := by
  refine il_el (P := fun u v => wpX_atRisk (fun r => wpY_atRisk (fun r' => r' = r ∧ i_Rel (k + 3) u v) v) u) I ?_
  intro H N W fm hh cc sn sc sm se sv sk ws wv ys yv kp dm hR
  obtain ⟨hN, hW, hM, hw⟩ := id hR
  obtain ⟨r, hX, hY⟩ := il_ar (fm := fm) (fd := fm) hM (by omega) hW hw 12 0 0 (by omega)
  exact ⟨13, hX _ ⟨13, hY _ ⟨rfl, il_in (il_R_up hR)⟩⟩⟩
theorem i_vc_durable {k : Nat} {u : SX} {v : SY} (I : i_Rel k u v) (hk : k + 3 ≤ 1536) : wpX_durable (fun r => wpY_durable (fun r' => r' = r ∧ i_Rel (k + 3) u v) v) u :=
  il_el (P := fun u v => wpX_durable (fun r => wpY_durable (fun r' => r' = r ∧ i_Rel (k + 3) u v) v) u) I fun _ _ _ _ _ _ _ _ _ _ _ _ _ _ _ _ _ _ hR => And.intro rfl (il_in (il_R_up hR))
end
