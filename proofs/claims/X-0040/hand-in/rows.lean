section
/-! rows picked from the kit (starting text): PURE-ROWS and BITS -/
theorem pk_us {f : Nat → Int32} {k : Nat} {x : Int32} : upd f k x k = x := if_pos rfl
theorem pk_un {f : Nat → Int32} {k j : Nat} {x : Int32} (h : j ≠ k) : upd f k x j = f j := if_neg h
theorem pk_sub {a b : Nat} (h : b ≤ a) : nI a - nI b = nI (a - b) := by
  obtain ⟨c, rfl⟩ : ∃ c, a = c + b := ⟨a - b, by omega⟩
  rw [← nI_add, Int32.add_sub_cancel, Nat.add_sub_cancel]
theorem pk_m1 (n : Nat) : nI (n + 1) + (-1) = nI n := by
  rw [← nI_1, Int32.add_assoc, show (1 : Int32) + (-1) = 0 from rfl, Int32.add_zero]
theorem pk_mul (a b : Nat) : nI a * nI b = nI (a * b) := (Int32.ofNat_mul a b).symm
theorem pk_div {a d : Nat} (ha : a < 2 ^ 31) (h0 : 0 < d) (hd : d < 2 ^ 31) : nI a / nI d = nI (a / d) := by
  apply Int32.toInt_inj.mp
  rw [lg_idiv_nonneg (by rw [nI_toInt ha]; omega) (by rw [nI_toInt hd]; omega), nI_toInt ha, nI_toInt hd, nI_toInt (Nat.lt_of_le_of_lt (Nat.div_le_self a d) ha)]
  first | rfl | exact (Int.natCast_ediv _ _).symm
theorem pk_rem {a d : Nat} (ha : a < 2 ^ 31) (h0 : 0 < d) (hd : d < 2 ^ 31) : nI a - nI a / nI d * nI d = nI (a % d) := by
  rw [pk_div ha h0 hd, pk_mul, pk_sub (Nat.div_mul_le_self a d)]
  exact congrArg nI (by have := Nat.div_add_mod' a d; omega)
theorem pk_ix (x : Int32) {n : Nat} (hn : n < 2 ^ 31) : x < 0 ∨ nI n ≤ x ∨ ∃ j : Nat, j < n ∧ x = nI j := by
  by_cases h : x < 0
  · exact Or.inl h
  · obtain ⟨j, hj, rfl⟩ := nI_of h
    by_cases h2 : j < n
    · exact Or.inr (Or.inr ⟨j, h2, rfl⟩)
    · exact Or.inr (Or.inl (nI_le (by omega) hj))
theorem pk_le {x y : Int32} {A B : Prop} (a b : Nat) (f : a ≤ b → A) (g : b < a → B) (hx : x = nI a := by rfl) (hy : y = nI b := by rfl) (ha : a < 2 ^ 31 := by omega) (hb : b < 2 ^ 31 := by omega) : (x ≤ y → A) ∧ (¬ x ≤ y → B) := by
  subst hx hy
  rw [nI_leI ha hb]
  exact ⟨f, fun z => g (by omega)⟩
theorem pk_lt {x y : Int32} {A B : Prop} (a b : Nat) (f : a < b → A) (g : b ≤ a → B) (hx : x = nI a := by rfl) (hy : y = nI b := by rfl) (ha : a < 2 ^ 31 := by omega) (hb : b < 2 ^ 31 := by omega) : (x < y → A) ∧ (¬ x < y → B) := by
  subst hx hy
  rw [nI_ltI ha hb]
  exact ⟨f, fun z => g (by omega)⟩
theorem pk_eq {x y : Int32} {A B : Prop} (a b : Nat) (f : a = b → A) (g : a ≠ b → B) (hx : x = nI a := by rfl) (hy : y = nI b := by rfl) (ha : a < 2 ^ 31 := by omega) (hb : b < 2 ^ 31 := by omega) : (x = y → A) ∧ (¬ x = y → B) := by
  subst hx hy
  rw [nI_eq ha hb]
  exact ⟨f, g⟩
theorem pk_in {x : Int32} (n N : Nat) (h : n < N) (hx : x = nI n := by rfl) (hN : N < 2 ^ 31 := by omega) : vp_in x N := by
  subst hx
  exact vp_in_nI h hN
theorem pk_cl {x : Int32} (n : Nat) (hx : x = nI n := by rfl) (h : n < 2 ^ 31 := by omega) : x.toNatClampNeg = n := by
  subst hx
  exact nI_clamp h
theorem pk_tn {n : Nat} (h : n < 2 ^ 32) : (nI n).toBitVec.toNat = n := Nat.mod_eq_of_lt h
theorem pk_and (x : Int32) {m : Int32} (k : Nat) (hm : m.toBitVec.toNat = 2 ^ k - 1) : x &&& m = nI (x.toBitVec.toNat % 2 ^ k) := by
  apply Int32.toBitVec_inj.mp
  apply BitVec.eq_of_toNat_eq
  rw [Int32.toBitVec_and, BitVec.toNat_and, hm, Nat.and_two_pow_sub_one_eq_mod]
  show _ = (BitVec.ofNat 32 _).toNat
  rw [BitVec.toNat_ofNat]
  exact (Nat.mod_eq_of_lt (Nat.lt_of_le_of_lt (Nat.mod_le _ _) x.toBitVec.isLt)).symm
theorem pk_andN {n : Nat} (h : n < 2 ^ 32) {m : Int32} (k : Nat) (hm : m.toBitVec.toNat = 2 ^ k - 1) : nI n &&& m = nI (n % 2 ^ k) := by
  rw [pk_and _ k hm, pk_tn h]
theorem pk_andE (x : Int32) {m : Int32} (k : Nat) (hm : m.toBitVec.toNat = 2 ^ k - 1) : ∃ j : Nat, j < 2 ^ k ∧ x &&& m = nI j := ⟨_, Nat.mod_lt _ (Nat.two_pow_pos k), pk_and x k hm⟩
theorem pk_shl (a s : Int32) (k : Nat) (hs : (s.toBitVec.smod 32).toNat = k) : (a <<< s).toBitVec.toNat = a.toBitVec.toNat * 2 ^ k % 2 ^ 32 := by
  show (a.toBitVec <<< (s.toBitVec.smod 32).toNat).toNat = _
  rw [hs, BitVec.toNat_shiftLeft, Nat.shiftLeft_eq]
theorem pk_shlN {n : Nat} (s : Int32) (k : Nat) (hs : (s.toBitVec.smod 32).toNat = k) (h : n * 2 ^ k < 2 ^ 32) : nI n <<< s = nI (n * 2 ^ k) := by
  apply Int32.toBitVec_inj.mp
  apply BitVec.eq_of_toNat_eq
  have hn : n < 2 ^ 32 := Nat.lt_of_le_of_lt (Nat.le_mul_of_pos_right n (Nat.two_pow_pos k)) h
  rw [pk_shl _ _ k hs, pk_tn hn, pk_tn h, Nat.mod_eq_of_lt h]
theorem pk_shr (a s : Int32) (k : Nat) (hs : (s.toBitVec.smod 32).toNat = k) : (a >>> s).toInt = a.toInt >>> k := by
  show (a.toBitVec.sshiftRight (s.toBitVec.smod 32).toNat).toInt = _
  rw [hs, BitVec.toInt_sshiftRight]
  rfl
theorem pk_shrN {n : Nat} (h : n < 2 ^ 31) (s : Int32) (k : Nat) (hs : (s.toBitVec.smod 32).toNat = k) : nI n >>> s = nI (n / 2 ^ k) := by
  apply Int32.toInt_inj.mp
  have h2 : n / 2 ^ k ≤ n := Nat.div_le_self _ _
  rw [pk_shr _ _ k hs, nI_toInt h, nI_toInt (by omega), Int.shiftRight_eq_div_pow]
  rfl
theorem pk_nb (z : Int32) : narrow .byte (.int z.toInt8.toInt32) = .int z.toInt8.toInt32 := congrArg Value.int (by simp)
theorem pk_vb (z : Int32) : vp_nar .byte z.toInt8.toInt32 = z.toInt8.toInt32 := by rw [vp_nar_byte]; simp
theorem sb_m1 {p : Nat} (h : 0 < p) : nI p + (-1) = nI (p - 1) := by
  obtain ⟨q, rfl⟩ : ∃ q, p = q + 1 := ⟨p - 1, by omega⟩
  exact pk_m1 q
def bt (x : Int32) (i : Nat) : Bool := x.toBitVec.getLsbD i
theorem b_ext {x y : Int32} (h : ∀ i, i < 32 → bt x i = bt y i) : x = y := Int32.toBitVec_inj.mp (BitVec.eq_of_getLsbD_eq (fun i hi => h i hi))
theorem b_or (x y : Int32) (i : Nat) : bt (x ||| y) i = (bt x i || bt y i) := by unfold bt; rw [Int32.toBitVec_or, BitVec.getLsbD_or]
theorem b_and (x y : Int32) (i : Nat) : bt (x &&& y) i = (bt x i && bt y i) := by unfold bt; rw [Int32.toBitVec_and, BitVec.getLsbD_and]
theorem b_xor (x y : Int32) (i : Nat) : bt (x ^^^ y) i = (bt x i ^^ bt y i) := by unfold bt; rw [Int32.toBitVec_xor, BitVec.getLsbD_xor]
theorem b_big {x : Int32} {i : Nat} (h : 32 ≤ i) : bt x i = false := BitVec.getLsbD_of_ge _ _ h
theorem b_m1 : ∀ i, i < 32 → bt (-1) i = true := by decide +kernel
theorem b_0 (i : Nat) : bt 0 i = false := BitVec.getLsbD_zero
theorem s_l : ∀ n, n < 32 → ((nI n &&& 31).toBitVec.smod 32).toNat = n := by decide +kernel
theorem b_shl (n : Nat) (hn : n < 32) (x : Int32) {i : Nat} (hi : i < 32) : bt (x <<< (nI n &&& 31)) i = (decide (n ≤ i) && bt x (i - n)) := by
  unfold bt
  rw [Int32.toBitVec_shiftLeft]
  show (x.toBitVec <<< ((nI n &&& 31).toBitVec.smod 32).toNat).getLsbD i = _
  rw [s_l n hn, BitVec.getLsbD_shiftLeft]
  rcases Nat.lt_or_ge i n with h | h
  · simp [h, Nat.not_le.mpr h]
  · simp [hi, h, Nat.not_lt.mpr h]
theorem b_sshr (n : Nat) (hn : n < 32) (x : Int32) {i : Nat} (hi : i < 32) : bt (x >>> (nI n &&& 31)) i = if n + i < 32 then bt x (n + i) else bt x 31 := by
  unfold bt
  rw [Int32.toBitVec_shiftRight]
  show (x.toBitVec.sshiftRight ((nI n &&& 31).toBitVec.smod 32).toNat).getLsbD i = _
  rw [s_l n hn, BitVec.getLsbD_sshiftRight, BitVec.msb_eq_getLsbD_last]
  simp [hi]
theorem nx_and (a b : Nat) : nI a &&& nI b = nI (a &&& b) := by
  apply Int32.toBitVec_inj.1
  show BitVec.ofNat 32 a &&& BitVec.ofNat 32 b = BitVec.ofNat 32 (a &&& b)
  apply BitVec.eq_of_getLsbD_eq
  intro i hi
  simp [hi]
theorem nx_xor (a b : Nat) : nI a ^^^ nI b = nI (a ^^^ b) := by
  apply Int32.toBitVec_inj.1
  show BitVec.ofNat 32 a ^^^ BitVec.ofNat 32 b = BitVec.ofNat 32 (a ^^^ b)
  apply BitVec.eq_of_getLsbD_eq
  intro i hi
  simp [hi]
theorem ts_nf {x : Bool} (h : ¬ x = false) : x = true := by cases x <;> first | rfl | exact absurd rfl h
theorem ts_nt {x : Bool} (h : ¬ x = true) : x = false := by cases x <;> first | rfl | exact absurd rfl h
end
section
/-! pure: an order of games by their options -/
section OG
variable {N : Nat} {L R le : Nat → Nat → Prop} {rt : Nat → Nat}
def og_Ord (N : Nat) (L R le : Nat → Nat → Prop) : Prop :=
  ∀ a b, a < N → b < N → (le a b ↔ (∀ x, L a x → ¬ le b x) ∧ (∀ y, R b y → ¬ le y a))
def og_Dn (N : Nat) (L : Nat → Nat → Prop) : Prop := ∀ a x, a < N → L a x → x < a
theorem og_refl (hO : og_Ord N L R le) (hL : og_Dn N L) (hR : og_Dn N R) : ∀ a, a < N → le a a := by
  intro a
  induction a using Nat.strongRecOn with
  | ind a ih =>
    intro ha
    refine (hO a a ha ha).mpr ⟨fun x hx h => ?_, fun y hy h => ?_⟩
    · have hxa := hL a x ha hx
      exact ((hO a x ha (by omega)).mp h).1 x hx (ih x hxa (by omega))
    · have hya := hR a y ha hy
      exact ((hO y a (by omega) ha).mp h).2 y hy (ih y hya (by omega))
theorem og_trans (hO : og_Ord N L R le) (hL : og_Dn N L) (hR : og_Dn N R) : ∀ k a b c, a + b + c < k → a < N → b < N → c < N → le a b → le b c → le a c := by
  intro k
  induction k with
  | zero => intro a b c h; omega
  | succ k ih =>
    intro a b c h ha hb hc hab hbc
    refine (hO a c ha hc).mpr ⟨fun x hx h1 => ?_, fun y hy h1 => ?_⟩
    · have hxa := hL a x ha hx
      exact ((hO a b ha hb).mp hab).1 x hx (ih b c x (by omega) hb hc (by omega) hbc h1)
    · have hyc := hR c y hc hy
      exact ((hO b c hb hc).mp hbc).2 y hy (ih y a b (by omega) (by omega) ha hb h1 hab)
def og_Pre (N : Nat) (le : Nat → Nat → Prop) : Prop := (∀ a, a < N → le a a) ∧ (∀ a b c, a < N → b < N → c < N → le a b → le b c → le a c)
def og_Hot (N : Nat) (L R le : Nat → Nat → Prop) : Prop := (∀ a x, a < N → L a x → x < a ∧ ¬ le a x) ∧ (∀ a y, a < N → R a y → y < a ∧ ¬ le y a)
def og_MX (N : Nat) (L R le : Nat → Nat → Prop) : Prop := ∀ a b, a < N → b < N → ¬ le a b → (∃ x, L a x ∧ le b x) ∨ (∃ y, R b y ∧ le y a)
def og_Rt (N : Nat) (le : Nat → Nat → Prop) (rt : Nat → Nat) : Prop := ∀ a, a < N → rt a ≤ a ∧ le a (rt a) ∧ le (rt a) a ∧ ∀ x, x < rt a → ¬ (le x a ∧ le a x)
def og_S (N : Nat) (L R le : Nat → Nat → Prop) (rt : Nat → Nat) : Prop := og_Pre N le ∧ og_Hot N L R le ∧ og_MX N L R le ∧ og_Rt N le rt
theorem og_pre (hO : og_Ord N L R le) (hL : og_Dn N L) (hR : og_Dn N R) : og_Pre N le :=
  ⟨og_refl hO hL hR, fun a b c ha hb hc h1 h2 => og_trans hO hL hR _ a b c (Nat.lt_succ_self _) ha hb hc h1 h2⟩
theorem og_hot (hO : og_Ord N L R le) (hL : og_Dn N L) (hR : og_Dn N R) : og_Hot N L R le := by
  refine ⟨fun a x ha hx => ⟨hL a x ha hx, fun h => ?_⟩, fun a y ha hy => ⟨hR a y ha hy, fun h => ?_⟩⟩
  · have hxa := hL a x ha hx
    exact ((hO a x ha (by omega)).mp h).1 x hx (og_refl hO hL hR x (by omega))
  · have hya := hR a y ha hy
    exact ((hO y a (by omega) ha).mp h).2 y hy (og_refl hO hL hR y (by omega))
theorem og_mx (hO : og_Ord N L R le) : og_MX N L R le := by
  intro a b ha hb h
  rw [hO a b ha hb] at h
  by_cases h1 : ∃ x, L a x ∧ le b x
  · exact Or.inl h1
  · refine Or.inr ?_
    by_cases h2 : ∃ y, R b y ∧ le y a
    · exact h2
    · exact absurd ⟨fun x hx hl => h1 ⟨x, hx, hl⟩, fun y hy hl => h2 ⟨y, hy, hl⟩⟩ h
theorem og_sys (hO : og_Ord N L R le) (hL : og_Dn N L) (hR : og_Dn N R) (hr : og_Rt N le rt) : og_S N L R le rt :=
  ⟨og_pre hO hL hR, og_hot hO hL hR, og_mx hO, hr⟩
theorem og_S_swap (h : og_S N L R le rt) : og_S N R L (fun a b => le b a) rt := by
  obtain ⟨⟨h1, h2⟩, ⟨h3, h4⟩, h5, h6⟩ := h
  refine ⟨⟨h1, fun a b c ha hb hc x y => h2 c b a hc hb ha y x⟩, ⟨h4, h3⟩, fun a b ha hb h => (h5 b a hb ha h).symm, fun a ha => ?_⟩
  obtain ⟨r1, r2, r3, r4⟩ := h6 a ha
  exact ⟨r1, r3, r2, fun x hx h => r4 x hx ⟨h.2, h.1⟩⟩
theorem og_rt_rt (hP : og_Pre N le) (hR : og_Rt N le rt) {a : Nat} (ha : a < N) : rt (rt a) = rt a := by
  obtain ⟨r1, r2, r3, r4⟩ := hR a ha
  have hb : rt a < N := by omega
  obtain ⟨q1, q2, q3, q4⟩ := hR (rt a) hb
  have hc : rt (rt a) < N := by omega
  rcases Nat.lt_or_ge (rt (rt a)) (rt a) with h | h
  · exact absurd ⟨hP.2 _ _ _ hc hb ha q3 r3, hP.2 _ _ _ ha hb hc r2 q2⟩ (r4 _ h)
  · omega
theorem og_rt_anti (hR : og_Rt N le rt) {x z : Nat} (hx : x < N) (hz : z < N) (rx : rt x = x) (rz : rt z = z) (h1 : le x z) (h2 : le z x) : x = z := by
  obtain ⟨_, _, _, r4⟩ := hR x hx
  obtain ⟨_, _, _, q4⟩ := hR z hz
  rw [rx] at r4
  rw [rz] at q4
  rcases Nat.lt_trichotomy x z with h | h | h
  · exact absurd ⟨h1, h2⟩ (q4 x h)
  · exact h
  · exact absurd ⟨h2, h1⟩ (r4 z h)
theorem og_max (hP : og_Pre N le) {C : Nat → Prop} (hC : ∀ x, C x → x < N) (anti : ∀ x z, C x → C z → le x z → le z x → x = z) :
    ∀ m x, C x → x < m → ∃ z, C z ∧ z < m ∧ le x z ∧ ∀ w, C w → w < m → le z w → w = z := by
  intro m
  induction m with
  | zero => intro x _ h; omega
  | succ m ih =>
    intro x hx hxm
    by_cases hm : C m
    · by_cases hxe : x = m
      · subst hxe
        by_cases h : ∃ z, C z ∧ z < x ∧ le x z
        · obtain ⟨z, hz, hzm, hxz⟩ := h
          obtain ⟨w, hw, hwm, hzw, hmax⟩ := ih z hz hzm
          have hxw := hP.2 x z w (hC x hx) (hC z hz) (hC w hw) hxz hzw
          refine ⟨w, hw, by omega, hxw, fun v hv hvm hwv => ?_⟩
          by_cases hvx : v = x
          · subst hvx; exact anti v w hv hw hxw hwv
          · exact hmax v hv (by omega) hwv
        · refine ⟨x, hx, by omega, hP.1 x (hC x hx), fun v hv hvm hxv => ?_⟩
          by_cases hvx : v = x
          · exact hvx
          · exact absurd ⟨v, hv, by omega, hxv⟩ h
      · obtain ⟨w, hw, hwm, hxw, hmax⟩ := ih x hx (by omega)
        by_cases hwm' : le w m
        · refine ⟨m, hm, by omega, hP.2 x w m (hC x hx) (hC w hw) (hC m hm) hxw hwm', fun v hv hvm hmv => ?_⟩
          by_cases hvm2 : v = m
          · exact hvm2
          · have e := hmax v hv (by omega) (hP.2 w m v (hC w hw) (hC m hm) (hC v hv) hwm' hmv)
            subst e
            exact anti v m hv hm hwm' hmv
        · refine ⟨w, hw, by omega, hxw, fun v hv hvm hwv => ?_⟩
          by_cases hvm2 : v = m
          · subst hvm2; exact absurd hwv hwm'
          · exact hmax v hv (by omega) hwv
    · have hxe : x ≠ m := fun e => hm (e ▸ hx)
      obtain ⟨w, hw, hwm, hxw, hmax⟩ := ih x hx (by omega)
      refine ⟨w, hw, by omega, hxw, fun v hv hvm hwv => ?_⟩
      have hve : v ≠ m := fun e => hm (e ▸ hv)
      exact hmax v hv (by omega) hwv
/-! forms -/
def og_C (le : Nat → Nat → Prop) (rt : Nat → Nat) (F : Nat → Nat → Prop) (n x : Nat) : Prop := x < n ∧ rt x = x ∧ ¬ le n x ∧ ∀ y, F x y → ¬ le y n
def og_M (le : Nat → Nat → Prop) (C : Nat → Prop) (x : Nat) : Prop := C x ∧ ∀ z, C z → le x z → z = x
def og_F (N : Nat) (le : Nat → Nat → Prop) (rt : Nat → Nat) (FL FR : Nat → Nat → Prop) : Prop :=
  ∀ g, g < N → rt g = g → ∀ x, (FL g x ↔ og_M le (og_C le rt FR g) x) ∧ (FR g x ↔ og_M (fun a b => le b a) (og_C (fun a b => le b a) rt FL g) x)
variable {FL FR : Nat → Nat → Prop} {NF : Nat}
theorem og_F_swap (h : og_F N le rt FL FR) : og_F N (fun a b => le b a) rt FR FL := fun g hg hr x => ⟨(h g hg hr x).2, (h g hg hr x).1⟩
theorem og_F_L (h : og_F N le rt FL FR) {g x : Nat} (hg : g < N) (hr : rt g = g) (hx : FL g x) : x < g ∧ rt x = x ∧ ¬ le g x := by
  obtain ⟨⟨h1, h2, h3, _⟩, _⟩ := (h g hg hr x).1.mp hx
  exact ⟨h1, h2, h3⟩
theorem og_F_R (h : og_F N le rt FL FR) {g y : Nat} (hg : g < N) (hr : rt g = g) (hy : FR g y) : y < g ∧ rt y = y ∧ ¬ le y g := og_F_L (og_F_swap h) hg hr hy
theorem og_C_anti (hS : og_S N L R le rt) {n : Nat} (hn : n ≤ N) : ∀ x z, og_C le rt FR n x → og_C le rt FR n z → le x z → le z x → x = z :=
  fun x z hx hz h1 h2 => og_rt_anti hS.2.2.2 (Nat.lt_of_lt_of_le hx.1 hn) (Nat.lt_of_lt_of_le hz.1 hn) hx.2.1 hz.2.1 h1 h2
theorem og_mixL (hNF : NF ≤ N) (hS : og_S N L R le rt) (hF : og_F NF le rt FL FR) {b : Nat} (hb : b < N) {Q : Nat → Prop} (hQ : ∀ y, Q y → y < N)
    (hM : ∀ a, a < N → ¬ le a b → (∃ x, L a x ∧ le b x) ∨ (∃ y, Q y ∧ le y a)) :
    ∀ a, a < NF → rt a = a → ¬ le a b → (∃ x, FL a x ∧ le b x) ∨ (∃ y, Q y ∧ le y a) := by
  obtain ⟨hP, hH, hX, hR⟩ := id hS
  intro a
  induction a using Nat.strongRecOn with
  | ind a ih =>
    intro ha hra hab
    have hz : ∀ z, z < a → rt z = z → ¬ le a z → le b z → (∃ x, FL a x ∧ le b x) ∨ (∃ y, Q y ∧ le y a) := by
      intro z
      induction z using Nat.strongRecOn with
      | ind z jh =>
        intro hza hrz haz hbz
        by_cases hrev : ∃ y, FR z y ∧ le y a
        · obtain ⟨y, hy, hya⟩ := hrev
          obtain ⟨hyz, hry, hnyz⟩ := og_F_R hF (by omega) hrz hy
          have hnyb : ¬ le y b := fun h => hnyz (hP.2 y b z (by omega) hb (by omega) h hbz)
          rcases ih y (by omega) (by omega) hry hnyb with ⟨x, hx, hbx⟩ | ⟨w, hw, hwy⟩
          · obtain ⟨hxy, hrx, hnyx⟩ := og_F_L hF (by omega) hry hx
            exact jh x (by omega) (by omega) hrx (fun h => hnyx (hP.2 y a x (by omega) (by omega) (by omega) hya h)) hbx
          · exact Or.inr ⟨w, hw, hP.2 w y a (hQ w hw) (by omega) (by omega) hwy hya⟩
        · have hc : og_C le rt FR a z := ⟨hza, hrz, haz, fun y hy h => hrev ⟨y, hy, h⟩⟩
          obtain ⟨w, hw, _, hzw, hmax⟩ := og_max hP (C := og_C le rt FR a) (fun x hx => Nat.lt_trans hx.1 (by omega)) (og_C_anti hS (by omega)) a z hc hza
          exact Or.inl ⟨w, ((hF a ha hra w).1).mpr ⟨hw, fun v hv h => hmax v hv hv.1 h⟩, hP.2 b z w hb (by omega) (Nat.lt_trans hw.1 (by omega)) hbz hzw⟩
    rcases hM a (by omega) hab with ⟨x, hx, hbx⟩ | h
    · obtain ⟨hxa, hnax⟩ := hH.1 a x (by omega) hx
      obtain ⟨h1, h2, h3, _⟩ := hR x (by omega)
      exact hz (rt x) (by omega) (og_rt_rt hP hR (by omega)) (fun h => hnax (hP.2 a (rt x) x (by omega) (by omega) (by omega) h h3)) (hP.2 b x (rt x) hb (by omega) (by omega) hbx h2)
    · exact Or.inr h
/-- form options of the first, built options of the second -/
theorem og_mixFO (hNF : NF ≤ N) (hS : og_S N L R le rt) (hF : og_F NF le rt FL FR) {a b : Nat} (ha : a < NF) (ra : rt a = a) (hb : b < N) (h : ¬ le a b) :
    (∃ x, FL a x ∧ le b x) ∨ (∃ y, R b y ∧ le y a) :=
  og_mixL hNF hS hF hb (Q := R b) (fun y hy => Nat.lt_trans (hS.2.1.2 b y hb hy).1 hb) (fun a ha h => hS.2.2.1 a b ha hb h) a ha ra h
/-- built options of the first, form options of the second -/
theorem og_mixOF (hNF : NF ≤ N) (hS : og_S N L R le rt) (hF : og_F NF le rt FL FR) {a b : Nat} (ha : a < N) (hb : b < NF) (rb : rt b = b) (h : ¬ le a b) :
    (∃ x, L a x ∧ le b x) ∨ (∃ y, FR b y ∧ le y a) :=
  (og_mixFO hNF (og_S_swap hS) (og_F_swap hF) hb rb ha h).symm
theorem og_mixFF (hNF : NF ≤ N) (hS : og_S N L R le rt) (hF : og_F NF le rt FL FR) {a b : Nat} (ha : a < NF) (ra : rt a = a) (hb : b < NF) (rb : rt b = b) (h : ¬ le a b) :
    (∃ x, FL a x ∧ le b x) ∨ (∃ y, FR b y ∧ le y a) :=
  og_mixL hNF hS hF (show b < N by omega) (Q := FR b) (fun y hy => by have := (og_F_R hF hb rb hy).1; omega) (fun a ha h => og_mixOF hNF hS hF ha hb rb h) a ha ra h
/-! the bypass -/
def og_BI (le : Nat → Nat → Prop) (rt : Nat → Nat) (FR : Nat → Nat → Prop) (n k : Nat) (set : Nat → Prop) : Prop :=
  (∀ y, set y → y < n ∧ rt y = y ∧ ¬ le n y) ∧ (∀ y, k ≤ y → set y → ∀ z, FR y z → ¬ le z n) ∧ (∀ x, og_C le rt FR n x → ∃ l, set l ∧ le x l)
theorem og_BI_0 {n : Nat} (hn : n < N) (hS : og_S N L R le rt) (hF : og_F n le rt FL FR) {set : Nat → Prop} (hs : ∀ y, set y ↔ ∃ i, L n i ∧ rt i = y) : og_BI le rt FR n n set := by
  obtain ⟨hP, hH, hX, hR⟩ := id hS
  refine ⟨fun y hy => ?_, fun y hk hy => ?_, fun x hx => ?_⟩
  · obtain ⟨i, hi, rfl⟩ := (hs y).mp hy
    obtain ⟨hin, hni⟩ := hH.1 n i hn hi
    obtain ⟨h1, h2, h3, _⟩ := hR i (by omega)
    exact ⟨by omega, og_rt_rt hP hR (by omega), fun h => hni (hP.2 n (rt i) i hn (by omega) (by omega) h h3)⟩
  · obtain ⟨i, hi, rfl⟩ := (hs y).mp hy
    have := (hH.1 n i hn hi).1
    have := (hR i (by omega)).1
    omega
  · obtain ⟨c1, c2, c3, c4⟩ := hx
    rcases og_mixOF (by omega) hS hF hn c1 c2 c3 with ⟨i, hi, hxi⟩ | ⟨y, hy, hyn⟩
    · obtain ⟨hin, hni⟩ := hH.1 n i hn hi
      obtain ⟨h1, h2, h3, _⟩ := hR i (by omega)
      exact ⟨rt i, (hs _).mpr ⟨i, hi, rfl⟩, hP.2 x i (rt i) (by omega) (by omega) (by omega) hxi h2⟩
    · exact absurd hyn (c4 y hy)
theorem og_BI_keep {n k : Nat} {set : Nat → Prop} (h : og_BI le rt FR n (k + 1) set) (hk : set k → ∀ z, FR k z → ¬ le z n) : og_BI le rt FR n k set := by
  refine ⟨h.1, fun y hy hs => ?_, h.2.2⟩
  rcases Nat.lt_or_ge k y with z | z
  · exact h.2.1 y z hs
  · have e : y = k := by omega
    subst e
    exact hk hs
theorem og_BI_step {n k y : Nat} (hn : n < N) (hS : og_S N L R le rt) (hF : og_F n le rt FL FR) {set set' : Nat → Prop} (h : og_BI le rt FR n (k + 1) set)
    (hk : set k) (hy : FR k y) (hyn : le y n) (hs : ∀ z, set' z ↔ (set z ∧ z ≠ k) ∨ FL y z) : og_BI le rt FR n k set' := by
  obtain ⟨hP, hH, hX, hR⟩ := id hS
  obtain ⟨b1, b2, b3⟩ := h
  obtain ⟨hkn, hrk, hnk⟩ := b1 k hk
  obtain ⟨hyk, hry, hnyk⟩ := og_F_R hF hkn hrk hy
  refine ⟨fun z hz => ?_, fun z hkz hz => ?_, fun w hw => ?_⟩
  · rcases (hs z).mp hz with ⟨h1, _⟩ | h1
    · exact b1 z h1
    · obtain ⟨q1, q2, q3⟩ := og_F_L hF (by omega) hry h1
      exact ⟨by omega, q2, fun h => q3 (hP.2 y n z (by omega) hn (by omega) hyn h)⟩
  · rcases (hs z).mp hz with ⟨h1, h2⟩ | h1
    · exact b2 z (by omega) h1
    · have := (og_F_L hF (by omega) hry h1).1
      omega
  · obtain ⟨l, hl, hwl⟩ := b3 w hw
    by_cases e : l = k
    · subst e
      obtain ⟨c1, c2, c3, c4⟩ := hw
      have hnyw : ¬ le y w := fun h => hnyk (hP.2 y w l (by omega) (by omega) (by omega) h hwl)
      rcases og_mixFF (by omega) hS hF (show y < n by omega) hry c1 c2 hnyw with ⟨z, hz, hwz⟩ | ⟨v, hv, hvy⟩
      · exact ⟨z, (hs z).mpr (Or.inr hz), hwz⟩
      · have hvw := (og_F_R hF c1 c2 hv).1
        exact absurd (hP.2 v y n (by omega) (by omega) hn hvy hyn) (c4 v hv)
    · exact ⟨l, (hs l).mpr (Or.inl ⟨hl, e⟩), hwl⟩
theorem og_BI_end {n : Nat} (hn : n < N) (hS : og_S N L R le rt) {set : Nat → Prop} (h : og_BI le rt FR n 0 set) (x : Nat) : og_M le set x ↔ og_M le (og_C le rt FR n) x := by
  obtain ⟨hP, hH, hX, hR⟩ := id hS
  obtain ⟨b1, b2, b3⟩ := h
  have hc : ∀ y, set y → og_C le rt FR n y := fun y hy => ⟨(b1 y hy).1, (b1 y hy).2.1, (b1 y hy).2.2, b2 y (Nat.zero_le _) hy⟩
  constructor
  · rintro ⟨hx, hm⟩
    refine ⟨hc x hx, fun z hz hxz => ?_⟩
    obtain ⟨l, hl, hzl⟩ := b3 z hz
    have hxn := (b1 x hx).1
    have hln := (b1 l hl).1
    have hzn := hz.1
    have e := hm l hl (hP.2 x z l (by omega) (by omega) (by omega) hxz hzl)
    subst e
    exact og_C_anti hS (by omega) z l hz (hc l hl) hzl hxz
  · rintro ⟨hx, hm⟩
    obtain ⟨l, hl, hxl⟩ := b3 x hx
    have e := hm l (hc l hl) hxl
    subst e
    exact ⟨hl, fun z hz h => hm z (hc z hz) h⟩
end OG
end
section
/-! pure: sums of three signed terms -/
section SU
def og_fs (p : Nat → Nat) (i c : Nat) : Nat → Nat := fun j => if j = i then c else p j
theorem og_fs_s {p : Nat → Nat} {i c : Nat} : og_fs p i c i = c := if_pos rfl
theorem og_fs_n {p : Nat → Nat} {i c j : Nat} (h : j ≠ i) : og_fs p i c j = p j := if_neg h
def og_LR (D : Nat → Nat → Prop) (o : Nat → Nat → Nat → Prop) (W : Nat → (Nat → Nat) → Prop) : Prop :=
  ∀ p, (∀ i, i < 3 → D i (p i)) → ∀ s, s < 2 → (W s p ↔ ∃ i, i < 3 ∧ ∃ c, o s (p i) c ∧ ¬ W (1 - s) (og_fs p i c))
theorem og_ms {p : Nat → Nat} {i c : Nat} (hi : i < 3) (h : c < p i) : og_fs p i c 0 + og_fs p i c 1 + og_fs p i c 2 < p 0 + p 1 + p 2 := by
  have h3 : i = 0 ∨ i = 1 ∨ i = 2 := by omega
  rcases h3 with rfl | rfl | rfl
  · rw [og_fs_s, og_fs_n (by decide), og_fs_n (by decide)]; omega
  · rw [og_fs_s, og_fs_n (by decide), og_fs_n (by decide)]; omega
  · rw [og_fs_s, og_fs_n (by decide), og_fs_n (by decide)]; omega
theorem og_fsD {D : Nat → Nat → Prop} {p : Nat → Nat} {i c : Nat} (h : ∀ j, j < 3 → D j (p j)) (hc : D i c) : ∀ j, j < 3 → D j (og_fs p i c j) := by
  intro j hj
  by_cases e : j = i
  · subst e; rw [og_fs_s]; exact hc
  · rw [og_fs_n e]; exact h j hj
theorem og_fsR {r : Nat → Nat → Prop} {p q : Nat → Nat} {i c d : Nat} (h : ∀ j, j < 3 → r (p j) (q j)) (hc : r c d) : ∀ j, j < 3 → r (og_fs p i c j) (og_fs q i d j) := by
  intro j hj
  by_cases e : j = i
  · subst e; rw [og_fs_s, og_fs_s]; exact hc
  · rw [og_fs_n e, og_fs_n e]; exact h j hj
theorem og_sum {oA oB : Nat → Nat → Nat → Prop} {DA DB rel : Nat → Nat → Prop} {WA WB : Nat → (Nat → Nat) → Prop} (hA : og_LR DA oA WA) (hB : og_LR DB oB WB)
    (cA : ∀ i c c' s, DA i c → oA s c c' → DA i c' ∧ c' < c) (cB : ∀ i c c' s, DB i c → oB s c c' → DB i c' ∧ c' < c)
    (P1 : ∀ c d d', rel c d → oB 1 d d' → (∃ c', oA 1 c c' ∧ rel c' d') ∨ (∃ d'', oB 0 d' d'' ∧ rel c d''))
    (P2 : ∀ c d c', rel c d → oA 0 c c' → (∃ d', oB 0 d d' ∧ rel c' d') ∨ (∃ c'', oA 1 c' c'' ∧ rel c'' d)) :
    ∀ k p q, p 0 + p 1 + p 2 + (q 0 + q 1 + q 2) < k → (∀ i, i < 3 → DA i (p i)) → (∀ i, i < 3 → DB i (q i)) → (∀ i, i < 3 → rel (p i) (q i)) →
      (¬ WA 1 p → ¬ WB 1 q) ∧ (WA 0 p → WB 0 q) := by
  intro k
  induction k with
  | zero => intro p q h; omega
  | succ k ih =>
    intro p q hk hp hq hr
    constructor
    · intro hnA hB1
      obtain ⟨i, hi, d, hd, hnB⟩ := (hB q hq 1 (by omega)).mp hB1
      obtain ⟨hDd, hdlt⟩ := cB i _ _ _ (hq i hi) hd
      have hm := og_ms hi hdlt
      have hq' := og_fsD hq hDd
      rcases P1 _ _ _ (hr i hi) hd with ⟨c, hc, hrc⟩ | ⟨d2, hd2, hrd⟩
      · obtain ⟨hDc, hclt⟩ := cA i _ _ _ (hp i hi) hc
        have hm' := og_ms hi hclt
        have hW : WA 0 (og_fs p i c) := Classical.byContradiction fun hno => hnA ((hA p hp 1 (by omega)).mpr ⟨i, hi, c, hc, hno⟩)
        exact hnB ((ih _ _ (by omega) (og_fsD hp hDc) hq' (og_fsR hr hrc)).2 hW)
      · have hd2' : oB 0 (og_fs q i d i) d2 := by rw [og_fs_s]; exact hd2
        obtain ⟨hDd2, hd2lt⟩ := cB i _ _ _ (hq' i hi) hd2'
        have hm2 := og_ms hi hd2lt
        have hr2 : ∀ j, j < 3 → rel (p j) (og_fs (og_fs q i d) i d2 j) := by
          intro j hj
          by_cases e : j = i
          · subst e; rw [og_fs_s]; exact hrd
          · rw [og_fs_n e, og_fs_n e]; exact hr j hj
        have hn2 := (ih p (og_fs (og_fs q i d) i d2) (by omega) hp (og_fsD hq' hDd2) hr2).1 hnA
        exact hnB ((hB _ hq' 0 (by omega)).mpr ⟨i, hi, d2, hd2', hn2⟩)
    · intro hA0
      obtain ⟨i, hi, c, hc, hnA⟩ := (hA p hp 0 (by omega)).mp hA0
      obtain ⟨hDc, hclt⟩ := cA i _ _ _ (hp i hi) hc
      have hm := og_ms hi hclt
      have hp' := og_fsD hp hDc
      rcases P2 _ _ _ (hr i hi) hc with ⟨d, hd, hrd⟩ | ⟨c2, hc2, hrc⟩
      · obtain ⟨hDd, hdlt⟩ := cB i _ _ _ (hq i hi) hd
        have hm' := og_ms hi hdlt
        have hn := (ih _ _ (by omega) hp' (og_fsD hq hDd) (og_fsR hr hrd)).1 hnA
        exact (hB q hq 0 (by omega)).mpr ⟨i, hi, d, hd, hn⟩
      · have hc2' : oA 1 (og_fs p i c i) c2 := by rw [og_fs_s]; exact hc2
        obtain ⟨hDc2, hc2lt⟩ := cA i _ _ _ (hp' i hi) hc2'
        have hm2 := og_ms hi hc2lt
        have hr2 : ∀ j, j < 3 → rel (og_fs (og_fs p i c) i c2 j) (q j) := by
          intro j hj
          by_cases e : j = i
          · subst e; rw [og_fs_s]; exact hrc
          · rw [og_fs_n e, og_fs_n e]; exact hr j hj
        have hW : WA 0 (og_fs (og_fs p i c) i c2) := Classical.byContradiction fun hno => hnA ((hA _ hp' 1 (by omega)).mpr ⟨i, hi, c2, hc2', hno⟩)
        exact (ih _ q (by omega) (og_fsD hp' hDc2) hq hr2).2 hW
/-! codes: 0 no term, 2 g + 1 a plain term, 2 g + 2 a turned one -/
def og_o (O : Nat → Nat → Nat → Prop) (s c c' : Nat) : Prop := ∃ t g x, t < 2 ∧ c = 2 * g + 1 + t ∧ c' = 2 * x + 1 + t ∧ O ((s + t) % 2) g x
def og_rel (le : Nat → Nat → Prop) (dA dB : Nat → Prop) (c d : Nat) : Prop :=
  (c = 0 ∧ d = 0) ∨ ∃ t g h, t < 2 ∧ c = 2 * g + 1 + t ∧ d = 2 * h + 1 + t ∧ dA g ∧ dB h ∧ (t = 0 → le g h) ∧ (t = 1 → le h g)
section
variable {le : Nat → Nat → Prop} {dA dB : Nat → Prop} {OA OB : Nat → Nat → Nat → Prop}
theorem og_rel0 {g h : Nat} (hg : dA g) (hh : dB h) (l : le g h) : og_rel le dA dB (2 * g + 1 + 0) (2 * h + 1 + 0) := Or.inr ⟨0, g, h, by omega, rfl, rfl, hg, hh, fun _ => l, fun z => absurd z (by decide)⟩
theorem og_rel1 {g h : Nat} (hg : dA g) (hh : dB h) (l : le h g) : og_rel le dA dB (2 * g + 1 + 1) (2 * h + 1 + 1) := Or.inr ⟨1, g, h, by omega, rfl, rfl, hg, hh, fun z => absurd z (by decide), fun _ => l⟩
theorem og_P1 (hAB : ∀ a b, dA a → dB b → ¬ le a b → (∃ w, OA 0 a w ∧ le b w) ∨ (∃ z, OB 1 b z ∧ le z a))
    (hBA : ∀ b a, dB b → dA a → ¬ le b a → (∃ z, OB 0 b z ∧ le a z) ∨ (∃ w, OA 1 a w ∧ le w b))
    (kA : ∀ s a w, dA a → OA s a w → dA w) (kB : ∀ s b z, dB b → OB s b z → dB z)
    (hB0 : ∀ a b z, dA a → dB b → le b a → OB 0 b z → ¬ le a z) (hB1 : ∀ a b z, dA a → dB b → le a b → OB 1 b z → ¬ le z a) :
    ∀ c d d', og_rel le dA dB c d → og_o OB 1 d d' → (∃ c', og_o OA 1 c c' ∧ og_rel le dA dB c' d') ∨ (∃ d'', og_o OB 0 d' d'' ∧ og_rel le dA dB c d'') := by
  rintro c d d' (⟨rfl, rfl⟩ | ⟨t, g, h, ht, rfl, rfl, hg, hh, h0, h1⟩) ⟨t', h', y, ht', e, rfl, ho⟩
  · omega
  · obtain rfl : t' = t := by omega
    obtain rfl : h' = h := by omega
    have h2 : t' = 0 ∨ t' = 1 := by omega
    rcases h2 with rfl | rfl
    · have hy := kB _ _ _ hh ho
      rcases hBA y g hy hg (hB1 g h' y hg hh (h0 rfl) ho) with ⟨z, hz, l⟩ | ⟨w, hw, l⟩
      · exact Or.inr ⟨2 * z + 1 + 0, ⟨0, y, z, by omega, rfl, rfl, hz⟩, og_rel0 hg (kB _ _ _ hy hz) l⟩
      · exact Or.inl ⟨2 * w + 1 + 0, ⟨0, g, w, by omega, rfl, rfl, hw⟩, og_rel0 (kA _ _ _ hg hw) hy l⟩
    · have hy := kB _ _ _ hh ho
      rcases hAB g y hg hy (hB0 g h' y hg hh (h1 rfl) ho) with ⟨w, hw, l⟩ | ⟨z, hz, l⟩
      · exact Or.inl ⟨2 * w + 1 + 1, ⟨1, g, w, by omega, rfl, rfl, hw⟩, og_rel1 (kA _ _ _ hg hw) hy l⟩
      · exact Or.inr ⟨2 * z + 1 + 1, ⟨1, y, z, by omega, rfl, rfl, hz⟩, og_rel1 hg (kB _ _ _ hy hz) l⟩
theorem og_P2 (hAB : ∀ a b, dA a → dB b → ¬ le a b → (∃ w, OA 0 a w ∧ le b w) ∨ (∃ z, OB 1 b z ∧ le z a))
    (hBA : ∀ b a, dB b → dA a → ¬ le b a → (∃ z, OB 0 b z ∧ le a z) ∨ (∃ w, OA 1 a w ∧ le w b))
    (kA : ∀ s a w, dA a → OA s a w → dA w) (kB : ∀ s b z, dB b → OB s b z → dB z)
    (hA0 : ∀ a b w, dA a → dB b → le a b → OA 0 a w → ¬ le b w) (hA1 : ∀ a b w, dA a → dB b → le b a → OA 1 a w → ¬ le w b) :
    ∀ c d c', og_rel le dA dB c d → og_o OA 0 c c' → (∃ d', og_o OB 0 d d' ∧ og_rel le dA dB c' d') ∨ (∃ c'', og_o OA 1 c' c'' ∧ og_rel le dA dB c'' d) := by
  rintro c d c' (⟨rfl, rfl⟩ | ⟨t, g, h, ht, rfl, rfl, hg, hh, h0, h1⟩) ⟨t', g', y, ht', e, rfl, ho⟩
  · omega
  · obtain rfl : t' = t := by omega
    obtain rfl : g' = g := by omega
    have h2 : t' = 0 ∨ t' = 1 := by omega
    rcases h2 with rfl | rfl
    · have hy := kA _ _ _ hg ho
      rcases hBA h y hh hy (hA0 g' h y hg hh (h0 rfl) ho) with ⟨z, hz, l⟩ | ⟨w, hw, l⟩
      · exact Or.inl ⟨2 * z + 1 + 0, ⟨0, h, z, by omega, rfl, rfl, hz⟩, og_rel0 hy (kB _ _ _ hh hz) l⟩
      · exact Or.inr ⟨2 * w + 1 + 0, ⟨0, y, w, by omega, rfl, rfl, hw⟩, og_rel0 (kA _ _ _ hy hw) hh l⟩
    · have hy := kA _ _ _ hg ho
      rcases hAB y h hy hh (hA1 g' h y hg hh (h1 rfl) ho) with ⟨w, hw, l⟩ | ⟨z, hz, l⟩
      · exact Or.inr ⟨2 * w + 1 + 1, ⟨1, y, w, by omega, rfl, rfl, hw⟩, og_rel1 (kA _ _ _ hy hw) hh l⟩
      · exact Or.inl ⟨2 * z + 1 + 1, ⟨1, h, z, by omega, rfl, rfl, hz⟩, og_rel1 hy (kB _ _ _ hh hz) l⟩
end
/-! the two structures: options as built, options of the forms -/
def og_LRO (L R : Nat → Nat → Prop) (s g x : Nat) : Prop := (s = 0 ∧ L g x) ∨ (s = 1 ∧ R g x)
theorem og_sum_eq {N : Nat} {L R le FL FR : Nat → Nat → Prop} {rt : Nat → Nat} (hS : og_S N L R le rt) (hF : og_F N le rt FL FR)
    {DA DB : Nat → Nat → Prop} {WA WB : Nat → (Nat → Nat) → Prop} (hA : og_LR DA (og_o (og_LRO L R)) WA) (hB : og_LR DB (og_o (og_LRO FL FR)) WB)
    (cA : ∀ i c c' s, DA i c → og_o (og_LRO L R) s c c' → DA i c' ∧ c' < c) (cB : ∀ i c c' s, DB i c → og_o (og_LRO FL FR) s c c' → DB i c' ∧ c' < c)
    {p q : Nat → Nat} (hp : ∀ i, i < 3 → DA i (p i)) (hq : ∀ i, i < 3 → DB i (q i))
    (h : ∀ i, i < 3 → (p i = 0 ∧ q i = 0) ∨ ∃ t g, t < 2 ∧ g < N ∧ p i = 2 * g + 1 + t ∧ q i = 2 * rt g + 1 + t) {s : Nat} (hs : s < 2) : WA s p ↔ WB s q := by
  obtain ⟨hP, hH, hX, hR⟩ := id hS
  have kA : ∀ s a w, a < N → og_LRO L R s a w → w < N := by
    rintro s a w ha (⟨_, h⟩ | ⟨_, h⟩)
    · exact Nat.lt_trans (hH.1 a w ha h).1 ha
    · exact Nat.lt_trans (hH.2 a w ha h).1 ha
  have kB : ∀ s b z, (b < N ∧ rt b = b) → og_LRO FL FR s b z → (z < N ∧ rt z = z) := by
    rintro s b z ⟨hb, rb⟩ (⟨_, h⟩ | ⟨_, h⟩)
    · have := og_F_L hF hb rb h; exact ⟨by omega, this.2.1⟩
    · have := og_F_R hF hb rb h; exact ⟨by omega, this.2.1⟩
  have hAB : ∀ a b, a < N → (b < N ∧ rt b = b) → ¬ le a b → (∃ w, og_LRO L R 0 a w ∧ le b w) ∨ (∃ z, og_LRO FL FR 1 b z ∧ le z a) := by
    intro a b ha hb h
    rcases og_mixOF (Nat.le_refl N) hS hF ha hb.1 hb.2 h with ⟨x, hx, l⟩ | ⟨y, hy, l⟩
    · exact Or.inl ⟨x, Or.inl ⟨rfl, hx⟩, l⟩
    · exact Or.inr ⟨y, Or.inr ⟨rfl, hy⟩, l⟩
  have hBA : ∀ b a, (b < N ∧ rt b = b) → a < N → ¬ le b a → (∃ z, og_LRO FL FR 0 b z ∧ le a z) ∨ (∃ w, og_LRO L R 1 a w ∧ le w b) := by
    intro b a hb ha h
    rcases og_mixFO (Nat.le_refl N) hS hF hb.1 hb.2 ha h with ⟨x, hx, l⟩ | ⟨y, hy, l⟩
    · exact Or.inl ⟨x, Or.inl ⟨rfl, hx⟩, l⟩
    · exact Or.inr ⟨y, Or.inr ⟨rfl, hy⟩, l⟩
  have nA0 : ∀ a b w, a < N → b < N → le a b → og_LRO L R 0 a w → ¬ le b w := by
    rintro a b w ha hb l (⟨_, h⟩ | ⟨z, _⟩) l2
    · have := hH.1 a w ha h; exact this.2 (hP.2 a b w ha hb (by omega) l l2)
    · exact absurd z (by decide)
  have nA1 : ∀ a b w, a < N → b < N → le b a → og_LRO L R 1 a w → ¬ le w b := by
    rintro a b w ha hb l (⟨z, _⟩ | ⟨_, h⟩) l2
    · exact absurd z (by decide)
    · have := hH.2 a w ha h; exact this.2 (hP.2 w b a (by omega) hb ha l2 l)
  have nB0 : ∀ a b w, a < N → rt a = a → b < N → le a b → og_LRO FL FR 0 a w → ¬ le b w := by
    rintro a b w ha ra hb l (⟨_, h⟩ | ⟨z, _⟩) l2
    · have := og_F_L hF ha ra h; exact this.2.2 (hP.2 a b w ha hb (by omega) l l2)
    · exact absurd z (by decide)
  have nB1 : ∀ a b w, a < N → rt a = a → b < N → le b a → og_LRO FL FR 1 a w → ¬ le w b := by
    rintro a b w ha ra hb l (⟨z, _⟩ | ⟨_, h⟩) l2
    · exact absurd z (by decide)
    · have := og_F_R hF ha ra h; exact this.2.2 (hP.2 w b a (by omega) hb ha l2 l)
  have hpq : ∀ i, i < 3 → og_rel le (fun g => g < N) (fun g => g < N ∧ rt g = g) (p i) (q i) := by
    intro i hi
    rcases h i hi with hz | ⟨t, g, ht, hg, e1, e2⟩
    · exact Or.inl hz
    · obtain ⟨r1, r2, r3, _⟩ := hR g hg
      exact Or.inr ⟨t, g, rt g, ht, e1, e2, hg, ⟨by omega, og_rt_rt hP hR hg⟩, fun _ => r2, fun _ => r3⟩
  have hqp : ∀ i, i < 3 → og_rel le (fun g => g < N ∧ rt g = g) (fun g => g < N) (q i) (p i) := by
    intro i hi
    rcases h i hi with hz | ⟨t, g, ht, hg, e1, e2⟩
    · exact Or.inl ⟨hz.2, hz.1⟩
    · obtain ⟨r1, r2, r3, _⟩ := hR g hg
      exact Or.inr ⟨t, rt g, g, ht, e2, e1, ⟨by omega, og_rt_rt hP hR hg⟩, hg, fun _ => r3, fun _ => r2⟩
  have F1 := og_sum hA hB cA cB
    (og_P1 (le := le) (dA := fun g => g < N) (dB := fun g => g < N ∧ rt g = g) hAB hBA kA kB (fun a b z ha hb l => nB0 b a z hb.1 hb.2 ha l) (fun a b z ha hb l => nB1 b a z hb.1 hb.2 ha l))
    (og_P2 (le := le) (dA := fun g => g < N) (dB := fun g => g < N ∧ rt g = g) hAB hBA kA kB (fun a b z ha hb l => nA0 a b z ha hb.1 l) (fun a b z ha hb l => nA1 a b z ha hb.1 l)) _ p q (Nat.lt_succ_self _) hp hq hpq
  have F2 := og_sum hB hA cB cA
    (og_P1 (le := le) (dA := fun g => g < N ∧ rt g = g) (dB := fun g => g < N) hBA hAB kB kA (fun a b z ha hb l => nA0 b a z hb ha.1 l) (fun a b z ha hb l => nA1 b a z hb ha.1 l))
    (og_P2 (le := le) (dA := fun g => g < N ∧ rt g = g) (dB := fun g => g < N) hBA hAB kB kA (fun a b z ha hb l => nB0 a b z ha.1 ha.2 hb l) (fun a b z ha hb l => nB1 a b z ha.1 ha.2 hb l)) _ q p (Nat.lt_succ_self _) hq hp hqp
  have h2 : s = 0 ∨ s = 1 := by omega
  rcases h2 with rfl | rfl
  · exact ⟨F1.2, F2.2⟩
  · exact ⟨fun h => Classical.byContradiction fun n => F2.1 n h, fun h => Classical.byContradiction fun n => F1.1 n h⟩
/-! two places exchanged -/
def og_sw (T i : Nat) : Nat := if i = T then 2 else if i = 2 then T else i
theorem og_sw_sw {T i : Nat} : og_sw T (og_sw T i) = i := by unfold og_sw; split <;> (try split) <;> (try split) <;> omega
theorem og_sw_lt {T i : Nat} (hT : T < 3) (hi : i < 3) : og_sw T i < 3 := by unfold og_sw; split <;> (try split) <;> omega
theorem og_LR_sw {D : Nat → Nat → Prop} {o : Nat → Nat → Nat → Prop} {W : Nat → (Nat → Nat) → Prop} {T : Nat} (hT : T < 3) (h : og_LR D o W) :
    og_LR (fun i => D (og_sw T i)) o (fun s p => W s (fun i => p (og_sw T i))) := by
  intro p hp s hs
  have e : ∀ i c, (fun j => og_fs p i c (og_sw T j)) = og_fs (fun j => p (og_sw T j)) (og_sw T i) c := by
    intro i c
    funext j
    by_cases z : og_sw T j = i
    · have z' : j = og_sw T i := by rw [← z, og_sw_sw]
      rw [z]
      show og_fs p i c i = _
      rw [og_fs_s, z', og_fs_s]
    · have z' : j ≠ og_sw T i := fun k => z (by rw [k, og_sw_sw])
      rw [og_fs_n z, og_fs_n z']
  have hq : ∀ i, i < 3 → D i ((fun j => p (og_sw T j)) i) := by
    intro i hi
    have := hp (og_sw T i) (og_sw_lt hT hi)
    simp only [og_sw_sw] at this
    exact this
  refine (h _ hq s hs).trans ⟨?_, ?_⟩
  · rintro ⟨i, hi, c, hc, hn⟩
    refine ⟨og_sw T i, og_sw_lt hT hi, c, hc, ?_⟩
    show ¬ W (1 - s) (fun j => og_fs p (og_sw T i) c (og_sw T j))
    rw [e, og_sw_sw]
    exact hn
  · rintro ⟨i, hi, c, hc, hn⟩
    have hn : ¬ W (1 - s) (fun j => og_fs p i c (og_sw T j)) := hn
    rw [e] at hn
    refine ⟨og_sw T i, og_sw_lt hT hi, c, ?_, hn⟩
    show o s (p (og_sw T (og_sw T i))) c
    rw [og_sw_sw]
    exact hc
end SU
end
section
/-! Int32 as a set: members by bt -/
section BB
theorem bb_1 : ∀ i, i < 32 → bt 1 i = decide (i = 0) := by decide +kernel
theorem bb_2 : ∀ i, i < 32 → bt 2 i = decide (i = 1) := by decide +kernel
theorem bb_31 : ∀ i, i < 32 → bt 31 i = decide (i < 5) := by decide +kernel
theorem bb_lt {x : Int32} {i : Nat} (h : bt x i = true) : i < 32 := by
  rcases Nat.lt_or_ge i 32 with z | z
  · exact z
  · rw [b_big z] at h; exact absurd h (by decide)
theorem bb_e {m : Int32} {i : Nat} (hi : i < 32) : bt ((m >>> (nI i &&& 31)) &&& 1) 0 = bt m i := by
  rw [b_and, b_sshr i hi m (by omega), bb_1 0 (by omega), if_pos (by omega)]
  simp
theorem bb_o {x : Int32} {j : Nat} (hj : j < 32) (z : ¬ j = 0) : bt (x &&& 1) j = false := by
  rw [b_and, bb_1 j hj, decide_eq_false z, Bool.and_false]
theorem bb_has {m : Int32} {i : Nat} (hi : i < 32) : ((m >>> (nI i &&& 31)) &&& 1) = 0 ↔ bt m i = false := by
  constructor
  · intro h
    rw [← bb_e hi, h, b_0]
  · intro h
    apply b_ext
    intro j hj
    by_cases z : j = 0
    · subst z; rw [b_0, bb_e hi]; exact h
    · rw [b_0, bb_o hj z]
theorem bb_has1 {m : Int32} {i : Nat} (hi : i < 32) : ((m >>> (nI i &&& 31)) &&& 1) = 1 ↔ bt m i = true := by
  constructor
  · intro h
    rw [← bb_e hi, h]
    decide
  · intro h
    apply b_ext
    intro j hj
    by_cases z : j = 0
    · subst z; rw [bb_1 0 (by omega), bb_e hi, h]; rfl
    · rw [bb_1 j hj, bb_o hj z, decide_eq_false z]
theorem bb_sh {n : Nat} (hn : n < 32) (i : Nat) : bt ((1 : Int32) <<< (nI n &&& 31)) i = decide (i = n) := by
  rcases Nat.lt_or_ge i 32 with h | h
  · rw [b_shl n hn 1 h, bb_1 (i - n) (by omega), Bool.eq_iff_iff]
    simp only [Bool.and_eq_true, decide_eq_true_eq]
    omega
  · rw [b_big h, decide_eq_false (by omega)]
theorem bb_not {x : Int32} {i : Nat} (hi : i < 32) : bt (x ^^^ (-1)) i = !bt x i := by
  rw [b_xor, b_m1 i hi]
  cases bt x i <;> rfl
theorem bb_nsh {n i : Nat} (hn : n < 32) (hi : i < 32) : bt (((1 : Int32) <<< (nI n &&& 31)) ^^^ (-1)) i = !decide (i = n) := by
  rw [bb_not hi, bb_sh hn]
theorem bb_and0 {x y : Int32} : (x &&& y) = 0 ↔ ∀ i, bt x i = true → ¬ bt y i = true := by
  constructor
  · intro h i hx hy
    have := b_and x y i
    rw [h, b_0, hx, hy] at this
    exact absurd this (by decide)
  · intro h
    apply b_ext
    intro i _
    rw [b_and, b_0]
    cases hx : bt x i
    · rfl
    · cases hy : bt y i
      · rfl
      · exact absurd hy (h i hx)
theorem bb_andn0 {x y : Int32} (h : ¬ (x &&& y) = 0) : ∃ i, bt x i = true ∧ bt y i = true := by
  apply Classical.byContradiction
  intro n
  exact h (bb_and0.mpr fun i hx hy => n ⟨i, hx, hy⟩)
theorem bb_eq {x y : Int32} (h : ∀ i, bt x i = true ↔ bt y i = true) : x = y := b_ext fun i _ => Bool.eq_iff_iff.mpr (h i)
theorem bb_nz {x : Int32} (h : ∀ i, ¬ bt x i = true) : x = 0 := bb_eq fun i => ⟨fun z => absurd z (h i), fun z => by rw [b_0] at z; exact absurd z (by decide)⟩
/-- the bit of n set, and a test of members -/
theorem bb_setT {x : Int32} {n : Nat} (hn : n < 32) (i : Nat) : bt (x ||| ((1 : Int32) <<< (nI n &&& 31))) i = true ↔ bt x i = true ∨ i = n := by
  rw [b_or, bb_sh hn, Bool.or_eq_true, decide_eq_true_eq]
theorem bb_delT {x : Int32} {n : Nat} (hn : n < 32) (i : Nat) : bt (x &&& (((1 : Int32) <<< (nI n &&& 31)) ^^^ (-1))) i = true ↔ bt x i = true ∧ i ≠ n := by
  rw [b_and, Bool.and_eq_true]
  constructor
  · rintro ⟨h1, h2⟩
    rw [bb_nsh hn (bb_lt h1)] at h2
    refine ⟨h1, fun e => ?_⟩
    rw [decide_eq_true e] at h2
    exact absurd h2 (by decide)
  · rintro ⟨h1, h2⟩
    refine ⟨h1, ?_⟩
    rw [bb_nsh hn (bb_lt h1), decide_eq_false h2]
    rfl
theorem bb_orT {x y : Int32} (i : Nat) : bt (x ||| y) i = true ↔ bt x i = true ∨ bt y i = true := by rw [b_or, Bool.or_eq_true]
theorem bb_andT {x y : Int32} (i : Nat) : bt (x &&& y) i = true ↔ bt x i = true ∧ bt y i = true := by rw [b_and, Bool.and_eq_true]
theorem bb_0F (i : Nat) : ¬ bt 0 i = true := by rw [b_0]; decide
theorem bb_xorlt {x : Int32} {n g : Nat} (hg : g < n) (hn : n ≤ 32) (h : ∀ i, bt x i = true → i < n) : ∀ i, bt (x ^^^ ((1 : Int32) <<< (nI g &&& 31))) i = true → i < n := by
  intro i hi
  rw [b_xor, bb_sh (by omega)] at hi
  by_cases e : i = g
  · omega
  · rw [decide_eq_false e, Bool.xor_false] at hi
    exact h i hi
/-! three codes of five bits -/
theorem bb_nI {k i : Nat} (hi : i < 32) : bt (nI k) i = k.testBit i := by
  show (BitVec.ofNat 32 k).getLsbD i = _
  rw [BitVec.getLsbD_ofNat, decide_eq_true hi, Bool.true_and]
theorem bb_orN (a b : Nat) : nI a ||| nI b = nI (a ||| b) := by
  apply b_ext
  intro i hi
  rw [b_or, bb_nI hi, bb_nI hi, bb_nI hi, Nat.testBit_or]
def pv_en (p : Nat → Nat) : Nat := p 0 + 32 * p 1 + 1024 * p 2
theorem pv_en_lt {p : Nat → Nat} (hp : ∀ i, i < 3 → p i < 32) : pv_en p < 32768 := by
  have h0 := hp 0 (by decide)
  have h1 := hp 1 (by decide)
  have h2 := hp 2 (by decide)
  unfold pv_en
  omega
theorem bb_en {a b c i : Nat} (ha : a < 32) (hb : b < 32) : (a + 32 * b + 1024 * c).testBit i = if i < 5 then a.testBit i else if i < 10 then b.testBit (i - 5) else c.testBit (i - 10) := by
  have e : a + 32 * b + 1024 * c = 2 ^ 10 * c + (2 ^ 5 * b + a) := by omega
  rw [e, Nat.testBit_two_pow_mul_add c (show 2 ^ 5 * b + a < 2 ^ 10 by omega), Nat.testBit_two_pow_mul_add b (show a < 2 ^ 5 by omega)]
  by_cases h5 : i < 5
  · rw [if_pos (by omega), if_pos h5, if_pos h5]
  · by_cases h10 : i < 10
    · rw [if_pos h10, if_neg h5, if_neg h5, if_pos h10]
    · rw [if_neg h10, if_neg h5, if_neg h10]
theorem bb_c5 {c j : Nat} (hc : c < 32) (hj : 5 ≤ j) : c.testBit j = false := Nat.testBit_lt_two_pow (Nat.lt_of_lt_of_le hc (Nat.pow_le_pow_right (by decide) hj : 2 ^ 5 ≤ 2 ^ j))
theorem bb_put {p : Nat → Nat} (hp : ∀ i, i < 3 → p i < 32) {i c : Nat} (hi : i < 3) (hc : c < 32) :
    (nI (pv_en p) &&& (((31 : Int32) <<< (nI (5 * i) &&& 31)) ^^^ (-1))) ||| (nI c <<< (nI (5 * i) &&& 31)) = nI (pv_en (og_fs p i c)) := by
  have h0 := hp 0 (by decide)
  have h1 := hp 1 (by decide)
  apply b_ext
  intro j hj
  rw [b_or, b_and, bb_not hj, b_shl (5 * i) (by omega) 31 hj, b_shl (5 * i) (by omega) (nI c) hj, bb_31 (j - 5 * i) (by omega), bb_nI hj, bb_nI hj, bb_nI (by omega)]
  unfold pv_en
  have h3 : i = 0 ∨ i = 1 ∨ i = 2 := by omega
  rcases h3 with rfl | rfl | rfl
  · rw [og_fs_s, og_fs_n (by decide), og_fs_n (by decide), bb_en h0 h1, bb_en hc h1]
    by_cases h5 : j < 5
    · simp [h5]
    · simp [h5, bb_c5 hc (show 5 ≤ j by omega)]
  · rw [og_fs_s, og_fs_n (by decide), og_fs_n (by decide), bb_en h0 h1, bb_en h0 hc]
    by_cases h5 : j < 5
    · simp [h5, show ¬ 5 ≤ j by omega]
    · by_cases h10 : j < 10
      · simp [h5, h10, show 5 ≤ j by omega, show j - 5 < 5 by omega]
      · simp [h5, h10, show 5 ≤ j by omega, show ¬ j - 5 < 5 by omega, bb_c5 hc (show 5 ≤ j - 5 by omega)]
  · rw [og_fs_s, og_fs_n (by decide), og_fs_n (by decide), bb_en h0 h1, bb_en h0 h1]
    by_cases h5 : j < 5
    · simp [h5, show ¬ 10 ≤ j by omega]
    · by_cases h10 : j < 10
      · simp [h5, h10, show ¬ 10 ≤ j by omega]
      · by_cases h15 : j - 10 < 5
        · simp [h5, h10, h15, show 10 ≤ j by omega]
        · have h2 := hp 2 (by decide)
          simp [h5, h10, h15, show 10 ≤ j by omega, bb_c5 hc (show 5 ≤ j - 10 by omega), bb_c5 h2 (show 5 ≤ j - 10 by omega)]
theorem bb_get {p : Nat → Nat} (hp : ∀ i, i < 3 → p i < 32) {i : Nat} (hi : i < 3) : (nI (pv_en p) >>> (nI (5 * i) &&& 31)) &&& 31 = nI (p i) := by
  have h := pv_en_lt hp
  have h0 := hp 0 (by decide)
  have h1 := hp 1 (by decide)
  have h2 := hp 2 (by decide)
  rw [pk_shrN (by omega) _ (5 * i) (s_l (5 * i) (by omega)), pk_andN (Nat.lt_of_le_of_lt (Nat.div_le_self _ _) (by omega)) 5 (by decide)]
  have h3 : i = 0 ∨ i = 1 ∨ i = 2 := by omega
  apply congrArg nI
  unfold pv_en
  rcases h3 with rfl | rfl | rfl
  · show (p 0 + 32 * p 1 + 1024 * p 2) / 1 % 32 = p 0
    omega
  · show (p 0 + 32 * p 1 + 1024 * p 2) / 32 % 32 = p 1
    omega
  · show (p 0 + 32 * p 1 + 1024 * p 2) / 1024 % 32 = p 2
    omega
theorem bb_orl {a c k : Nat} (hk : k < 32) (ha : a < 2 ^ k) (hc : c * 2 ^ k < 2 ^ 32) : nI a ||| (nI c <<< (nI k &&& 31)) = nI (a + c * 2 ^ k) := by
  rw [pk_shlN _ k (s_l k hk) hc, bb_orN, Nat.or_comm, Nat.mul_comm, ← Nat.two_pow_add_eq_or_of_lt ha, Nat.add_comm]
theorem bb_enc {x y z : Nat} (hx : x < 32) (hy : y < 32) (hz : z < 32) : ((nI x <<< ((10 : Int32) &&& 31)) ||| (nI y <<< ((5 : Int32) &&& 31))) ||| nI z = nI (z + 32 * y + 1024 * x) := by
  rw [pk_shlN _ 10 (by decide) (by omega), pk_shlN _ 5 (by decide) (by omega), bb_orN, bb_orN]
  apply congrArg nI
  rw [Nat.mul_comm x, Nat.mul_comm y, ← Nat.two_pow_add_eq_or_of_lt (show 2 ^ 5 * y < 2 ^ 10 by omega)]
  rw [show 2 ^ 10 * x + 2 ^ 5 * y = 2 ^ 5 * (2 ^ 5 * x + y) by omega, ← Nat.two_pow_add_eq_or_of_lt (show z < 2 ^ 5 by omega)]
  omega
end BB
end
section
/-! X: small methods -/
section XS
variable {cap cnt dl dr tm : Int32} {lf rg up dn ro fl fr bi su tg tt : Nat → Int32} {ns : Nat}
def pv_m (a : Nat → Int32) (g x : Nat) : Prop := bt (a g) x = true
def pv_rt (a : Nat → Int32) (g : Nat) : Nat := (a g).toNatClampNeg
theorem xw_has {A B : Prop} {u : SX} {m : Int32} {i : Nat} (hi : i < 32) (h0 : bt m i = false → A) (h1 : bt m i = true → B) :
    wpX_has (fun r => (r = 0 → A) ∧ (¬ r = 0 → B)) u m (nI i) := by
  obtain ⟨_, _, _, _, _, _, _, _, _, _, _, _, _, _, _, _, _⟩ := u
  exact br_c (fun z => br_t rfl (h0 ((bb_has hi).mp z))) (fun z => br_f (by decide) (h1 (ts_nf (fun w => z ((bb_has hi).mpr w)))))
theorem xw_hasP {post : Int32 → Prop} {u : SX} {m : Int32} {i : Nat} (hi : i < 32) (h0 : bt m i = false → post 0) (h1 : bt m i = true → post 1) :
    wpX_has post u m (nI i) := by
  obtain ⟨_, _, _, _, _, _, _, _, _, _, _, _, _, _, _, _, _⟩ := u
  exact br_c (fun z => h0 ((bb_has hi).mp z)) (fun z => h1 (ts_nf (fun w => z ((bb_has hi).mpr w))))
theorem xw_sideT {A B : Prop} {u : SX} {s : Nat} (hs : s < 2) (h : B) : wpX_isSide (fun r => (r = 0 → A) ∧ (¬ r = 0 → B)) u (nI s) := by
  obtain ⟨_, _, _, _, _, _, _, _, _, _, _, _, _, _, _, _, _⟩ := u
  have h2 : s = 0 ∨ s = 1 := by omega
  rcases h2 with rfl | rfl
  · exact br_t rfl (br_f (by decide) h)
  · exact br_f (by decide) (br_t rfl (br_f (by decide) h))
theorem xw_sideF {A B : Prop} {u : SX} {x : Int32} (hs : ¬ ∃ s, s < 2 ∧ x = nI s) (h : A) : wpX_isSide (fun r => (r = 0 → A) ∧ (¬ r = 0 → B)) u x := by
  obtain ⟨_, _, _, _, _, _, _, _, _, _, _, _, _, _, _, _, _⟩ := u
  exact br_f (fun e => hs ⟨0, by decide, e⟩) (br_f (fun e => hs ⟨1, by decide, e⟩) (br_t rfl h))
theorem xw_gameT {A B : Prop} {N g : Nat} (hN : N < 13) (hg : g < N) (hc : cnt = nI N) (h : B) : wpX_isGame (fun r => (r = 0 → A) ∧ (¬ r = 0 → B)) (cap, cnt, dl, dr, tm, lf, rg, up, dn, ro, fl, fr, bi, su, tg, tt, ns) (nI g) :=
  br_f (nI_pos (by omega)) (pk_le N g (fun z => absurd hg (by omega)) (fun _ => br_f (by decide) h) hc rfl)
theorem pv_nlt {x : Int32} {N : Nat} (hN : N < 13) (hg : ¬ ∃ g, g < N ∧ x = nI g) (h : ¬ x < 0) : nI N ≤ x := by
  rcases pk_ix x (n := N) (by omega) with z | z | ⟨j, h1, h2⟩
  · exact absurd z h
  · exact z
  · exact absurd ⟨j, h1, h2⟩ hg
theorem xw_gameF {A B : Prop} {N : Nat} {x : Int32} (hN : N < 13) (hg : ¬ ∃ g, g < N ∧ x = nI g) (hc : cnt = nI N) (h : A) : wpX_isGame (fun r => (r = 0 → A) ∧ (¬ r = 0 → B)) (cap, cnt, dl, dr, tm, lf, rg, up, dn, ro, fl, fr, bi, su, tg, tt, ns) x :=
  br_c (fun _ => br_t rfl h) (fun z => br_t (hc ▸ pv_nlt hN hg z) (br_t rfl h))
theorem xw_placeT {A B : Prop} {T i : Nat} (hT : T < 13) (hi : i < T) (hc : tm = nI T) (h : B) : wpX_isPlace (fun r => (r = 0 → A) ∧ (¬ r = 0 → B)) (cap, cnt, dl, dr, tm, lf, rg, up, dn, ro, fl, fr, bi, su, tg, tt, ns) (nI i) :=
  br_f (nI_pos (by omega)) (pk_le T i (fun z => absurd hi (by omega)) (fun _ => br_f (by decide) h) hc rfl)
theorem xw_placeF {A B : Prop} {T : Nat} {x : Int32} (hT : T < 13) (hi : ¬ ∃ g, g < T ∧ x = nI g) (hc : tm = nI T) (h : A) : wpX_isPlace (fun r => (r = 0 → A) ∧ (¬ r = 0 → B)) (cap, cnt, dl, dr, tm, lf, rg, up, dn, ro, fl, fr, bi, su, tg, tt, ns) x :=
  br_c (fun _ => br_t rfl h) (fun z => br_t (hc ▸ pv_nlt hT hi z) (br_t rfl h))
/-! lowest -/
theorem xw_low2 {post : Int32 → Prop} {m : Int32} (h : ∀ y, y < 12 → (∀ j, j < y → bt m j = false) → (y < 11 → bt m y = true) → post (nI y)) :
    ∀ d i, i + d = 11 → (∀ j, j < i → bt m j = false) → wX_lowest_2 post m cap cnt dl dr tm lf rg up dn ro fl fr bi su tg tt ns (d + 1) (nI i) := by
  intro d
  induction d with
  | zero =>
    intro i hi hj
    exact pk_le 11 i (fun _ => h i (by omega) hj (fun z => absurd z (by omega))) (fun z => absurd hi (by omega))
  | succ d ih =>
    intro i hi hj
    refine pk_le 11 i (fun z => absurd hi (by omega)) (fun _ => xw_has (by omega) (fun hb => nm_r (nI_1 i) (ih (i + 1) (by omega) ?_)) (fun hb => h i (by omega) hj (fun _ => hb)))
    intro j hj'
    by_cases e : j = i
    · subst e; exact hb
    · exact hj j (by omega)
theorem xw_low {post : Int32 → Prop} {m : Int32} (hm : ∃ i, i < 12 ∧ bt m i = true) (h : ∀ y, y < 12 → bt m y = true → (∀ j, j < y → bt m j = false) → post (nI y)) :
    wpX_lowest post (cap, cnt, dl, dr, tm, lf, rg, up, dn, ro, fl, fr, bi, su, tg, tt, ns) m := by
  obtain ⟨i, hi, hb⟩ := hm
  refine ⟨12, xw_low2 (fun y hy hj hb' => h y hy ?_ hj) 11 0 rfl (fun j z => absurd z (Nat.not_lt_zero j))⟩
  by_cases z : y < 11
  · exact hb' z
  · rcases Nat.lt_or_ge i y with w | w
    · rw [hj i w] at hb; exact absurd hb (by decide)
    · have e : i = y := by omega
      rw [← e]; exact hb
/-! rootsOf -/
theorem xw_roots4 {post : Int32 → Prop} {m : Int32} {n : Nat} (hn : n ≤ 12) (hm : ∀ x, bt m x = true → x < n) (hr : ∀ g, g < n → pv_rt ro g ≤ g ∧ ro g = nI (pv_rt ro g))
    (h : ∀ r, (∀ x, bt r x = true ↔ ∃ i, bt m i = true ∧ pv_rt ro i = x) → post r) :
    ∀ d i s, i + d = 12 → (∀ x, bt s x = true ↔ ∃ j, j < i ∧ bt m j = true ∧ pv_rt ro j = x) → wX_rootsOf_4 post m cap cnt dl dr tm lf rg up dn ro fl fr bi su tg tt ns (d + 1) s (nI i) := by
  intro d
  induction d with
  | zero =>
    intro i s hi hs
    refine pk_le 12 i (fun _ => h s (fun x => (hs x).trans ⟨fun ⟨j, _, h⟩ => ⟨j, h⟩, fun ⟨j, h1, h2⟩ => ⟨j, ?_, h1, h2⟩⟩)) (fun z => absurd hi (by omega))
    have := hm j h1
    omega
  | succ d ih =>
    intro i s hi hs
    refine pk_le 12 i (fun z => absurd hi (by omega)) (fun _ => xw_has (by omega) (fun hb => nm_r (nI_1 i) (ih (i + 1) s (by omega) ?_)) (fun hb => ⟨vp_in_nI (by omega) (by omega), ?_⟩))
    · intro x
      refine (hs x).trans ⟨fun ⟨j, h0, h1, h2⟩ => ⟨j, by omega, h1, h2⟩, fun ⟨j, h0, h1, h2⟩ => ⟨j, ?_, h1, h2⟩⟩
      by_cases e : j = i
      · subst e; rw [hb] at h1; exact absurd h1 (by decide)
      · omega
    · have hin := hm i hb
      obtain ⟨q1, q2⟩ := hr i hin
      refine nm_r (e' := s ||| ((1 : Int32) <<< (nI (pv_rt ro i) &&& 31))) (by rw [nI_clamp (by omega), ← q2]) (nm_r (nI_1 i) (ih (i + 1) _ (by omega) ?_))
      intro x
      rw [bb_setT (by omega), hs x]
      constructor
      · rintro (⟨j, h0, h1, h2⟩ | e)
        · exact ⟨j, by omega, h1, h2⟩
        · exact ⟨i, by omega, hb, e.symm⟩
      · rintro ⟨j, h0, h1, h2⟩
        by_cases e : j = i
        · subst e; exact Or.inr h2.symm
        · exact Or.inl ⟨j, by omega, h1, h2⟩
theorem xw_roots {post : Int32 → Prop} {m : Int32} {n : Nat} (hn : n ≤ 12) (hm : ∀ x, bt m x = true → x < n) (hr : ∀ g, g < n → pv_rt ro g ≤ g ∧ ro g = nI (pv_rt ro g))
    (h : ∀ r, (∀ x, bt r x = true ↔ ∃ i, bt m i = true ∧ pv_rt ro i = x) → post r) : wpX_rootsOf post (cap, cnt, dl, dr, tm, lf, rg, up, dn, ro, fl, fr, bi, su, tg, tt, ns) m :=
  ⟨13, xw_roots4 hn hm hr h 12 0 0 rfl (fun x => ⟨fun z => absurd z (bb_0F x), fun ⟨j, z, _⟩ => absurd z (Nat.not_lt_zero j)⟩)⟩
/-! the bypasses -/
def pv_pr : Nat → Int32
  | 0 => -1
  | k + 1 => nI k
theorem pv_pr1 (k : Nat) : nI k + (-1) = pv_pr k := by
  cases k with
  | zero => decide
  | succ k => exact pk_m1 k
theorem pv_pr2 (k : Nat) : nI k - 1 = pv_pr k := by
  cases k with
  | zero => decide
  | succ k => exact nI_pred k
theorem xw_byLeft15 {post : Int32 → Prop} {n : Nat} {le : Nat → Nat → Prop} {L R : Nat → Nat → Prop} (hn : n < 12) (hS : og_S (n + 1) L R le (pv_rt ro)) (hF : og_F n le (pv_rt ro) (pv_m fl) (pv_m fr))
    (hd : ∀ z, z < n → (pv_m dn n z ↔ le z n))
    (h : ∀ r, og_BI le (pv_rt ro) (pv_m fr) n 0 (fun y => bt r y = true) → post r) :
    ∀ k s, k ≤ n → og_BI le (pv_rt ro) (pv_m fr) n k (fun y => bt s y = true) → wX_bypassLeft_15 post (nI n) cap cnt dl dr tm lf rg up dn ro fl fr bi su tg tt ns (k + 1) s (pv_pr k) := by
  intro k
  induction k with
  | zero =>
    intro s _ hB
    exact br_t (by decide) (h s hB)
  | succ k ih =>
    intro s hk hB
    show wX_bypassLeft_15 post (nI n) cap cnt dl dr tm lf rg up dn ro fl fr bi su tg tt ns (k + 1 + 1) s (nI k)
    refine br_f (nI_pos (by omega)) ⟨vp_in_nI (by omega) (by omega), vp_in_nI (by omega) (by omega), nm_r (e' := fr k &&& dn n) (by rw [nI_clamp (by omega), nI_clamp (by omega)]) ?_⟩
    refine xw_has (by omega) (fun hb => nm_r (pv_pr1 k) (ih s (by omega) (og_BI_keep hB (fun z => ?_)))) (fun hb => br_c (fun z0 => nm_r (pv_pr1 k) (ih s (by omega) (og_BI_keep hB (fun _ z hz hl => ?_)))) (fun z1 => ?_))
    · have z : bt s k = true := z
      rw [hb] at z
      exact absurd z (by decide)
    · have hzk := (og_F_R hF (show k < n by omega) (hB.1 k hb).2.1 hz).1
      exact bb_and0.mp z0 z hz ((hd z (by omega)).mpr hl)
    · obtain ⟨i, hi⟩ := bb_andn0 z1
      have hik := (og_F_R hF (show k < n by omega) (hB.1 k hb).2.1 hi.1).1
      refine xw_low ⟨i, by omega, (bb_andT i).mpr hi⟩ (fun y hy hby _ => ⟨vp_in_nI hy (by omega), ?_⟩)
      obtain ⟨hy1, hy2⟩ := (bb_andT y).mp hby
      have hyk := (og_F_R hF (show k < n by omega) (hB.1 k hb).2.1 hy1).1
      refine nm_r (e' := (s &&& (((1 : Int32) <<< (nI k &&& 31)) ^^^ (-1))) ||| fl y) (by rw [nI_clamp (by omega)]) (nm_r (pv_pr1 k) (ih _ (by omega) ?_))
      refine og_BI_step (by omega) hS hF hB hb hy1 ((hd y (by omega)).mp hy2) (fun z => ?_)
      rw [bb_orT, bb_delT (by omega)]
      exact Iff.rfl
theorem xw_byLeft {post : Int32 → Prop} {n : Nat} {le : Nat → Nat → Prop} {R : Nat → Nat → Prop} (hn : n < 12) (hS : og_S (n + 1) (pv_m lf) R le (pv_rt ro)) (hF : og_F n le (pv_rt ro) (pv_m fl) (pv_m fr))
    (hd : ∀ z, z < n → (pv_m dn n z ↔ le z n)) (hr : ∀ g, g < n → pv_rt ro g ≤ g ∧ ro g = nI (pv_rt ro g))
    (h : ∀ r, og_BI le (pv_rt ro) (pv_m fr) n 0 (fun y => bt r y = true) → post r) : wpX_bypassLeft post (cap, cnt, dl, dr, tm, lf, rg, up, dn, ro, fl, fr, bi, su, tg, tt, ns) (nI n) := by
  refine ⟨vp_in_nI hn (by omega), ?_⟩
  rw [nI_clamp (by omega)]
  refine xw_roots (n := n) (by omega) (fun x hx => (hS.2.1.1 n x (by omega) hx).1) hr (fun r hr2 => nm_r (pv_pr2 n) ⟨n + 1, ?_⟩)
  exact xw_byLeft15 hn hS hF hd h n r (Nat.le_refl n) (og_BI_0 (by omega) hS hF (fun y => hr2 y))
theorem xw_byRight15 {post : Int32 → Prop} {n : Nat} {le : Nat → Nat → Prop} {L R : Nat → Nat → Prop} (hn : n < 12) (hS : og_S (n + 1) L R le (pv_rt ro)) (hF : og_F n le (pv_rt ro) (pv_m fr) (pv_m fl))
    (hd : ∀ z, z < n → (pv_m up n z ↔ le z n))
    (h : ∀ r, og_BI le (pv_rt ro) (pv_m fl) n 0 (fun y => bt r y = true) → post r) :
    ∀ k s, k ≤ n → og_BI le (pv_rt ro) (pv_m fl) n k (fun y => bt s y = true) → wX_bypassRight_15 post (nI n) cap cnt dl dr tm lf rg up dn ro fl fr bi su tg tt ns (k + 1) s (pv_pr k) := by
  intro k
  induction k with
  | zero =>
    intro s _ hB
    exact br_t (by decide) (h s hB)
  | succ k ih =>
    intro s hk hB
    show wX_bypassRight_15 post (nI n) cap cnt dl dr tm lf rg up dn ro fl fr bi su tg tt ns (k + 1 + 1) s (nI k)
    refine br_f (nI_pos (by omega)) ⟨vp_in_nI (by omega) (by omega), vp_in_nI (by omega) (by omega), nm_r (e' := fl k &&& up n) (by rw [nI_clamp (by omega), nI_clamp (by omega)]) ?_⟩
    refine xw_has (by omega) (fun hb => nm_r (pv_pr1 k) (ih s (by omega) (og_BI_keep hB (fun z => ?_)))) (fun hb => br_c (fun z0 => nm_r (pv_pr1 k) (ih s (by omega) (og_BI_keep hB (fun _ z hz hl => ?_)))) (fun z1 => ?_))
    · have z : bt s k = true := z
      rw [hb] at z
      exact absurd z (by decide)
    · have hzk := (og_F_R hF (show k < n by omega) (hB.1 k hb).2.1 hz).1
      exact bb_and0.mp z0 z hz ((hd z (by omega)).mpr hl)
    · obtain ⟨i, hi⟩ := bb_andn0 z1
      have hik := (og_F_R hF (show k < n by omega) (hB.1 k hb).2.1 hi.1).1
      refine xw_low ⟨i, by omega, (bb_andT i).mpr hi⟩ (fun y hy hby _ => ⟨vp_in_nI hy (by omega), ?_⟩)
      obtain ⟨hy1, hy2⟩ := (bb_andT y).mp hby
      have hyk := (og_F_R hF (show k < n by omega) (hB.1 k hb).2.1 hy1).1
      refine nm_r (e' := (s &&& (((1 : Int32) <<< (nI k &&& 31)) ^^^ (-1))) ||| fr y) (by rw [nI_clamp (by omega)]) (nm_r (pv_pr1 k) (ih _ (by omega) ?_))
      refine og_BI_step (by omega) hS hF hB hb hy1 ((hd y (by omega)).mp hy2) (fun z => ?_)
      rw [bb_orT, bb_delT (by omega)]
      exact Iff.rfl
theorem xw_byRight {post : Int32 → Prop} {n : Nat} {le : Nat → Nat → Prop} {R : Nat → Nat → Prop} (hn : n < 12) (hS : og_S (n + 1) (pv_m rg) R le (pv_rt ro)) (hF : og_F n le (pv_rt ro) (pv_m fr) (pv_m fl))
    (hd : ∀ z, z < n → (pv_m up n z ↔ le z n)) (hr : ∀ g, g < n → pv_rt ro g ≤ g ∧ ro g = nI (pv_rt ro g))
    (h : ∀ r, og_BI le (pv_rt ro) (pv_m fl) n 0 (fun y => bt r y = true) → post r) : wpX_bypassRight post (cap, cnt, dl, dr, tm, lf, rg, up, dn, ro, fl, fr, bi, su, tg, tt, ns) (nI n) := by
  refine ⟨vp_in_nI hn (by omega), ?_⟩
  rw [nI_clamp (by omega)]
  refine xw_roots (n := n) (by omega) (fun x hx => (hS.2.1.1 n x (by omega) hx).1) hr (fun r hr2 => nm_r (pv_pr2 n) ⟨n + 1, ?_⟩)
  exact xw_byRight15 hn hS hF hd h n r (Nat.le_refl n) (og_BI_0 (by omega) hS hF (fun y => hr2 y))
/-! greatest, least -/
theorem bb_dom {s a : Int32} {i : Nat} (hi : i < 32) : ((s &&& a) &&& (((1 : Int32) <<< (nI i &&& 31)) ^^^ (-1))) = 0 ↔ ∀ z, bt s z = true → bt a z = true → z = i := by
  rw [bb_and0]
  constructor
  · intro h z h1 h2
    apply Classical.byContradiction
    intro n
    refine h z ((bb_andT z).mpr ⟨h1, h2⟩) ?_
    rw [bb_nsh hi (bb_lt h1), decide_eq_false n]
    rfl
  · intro h z h1 h2
    obtain ⟨h3, h4⟩ := (bb_andT z).mp h1
    have e := h z h3 h4
    rw [bb_nsh hi (bb_lt h3), decide_eq_true e] at h2
    exact absurd h2 (by decide)
theorem xw_gr4 {post : Int32 → Prop} {m : Int32} (hm : ∀ x, bt m x = true → x < 12) (h : ∀ r, (∀ x, bt r x = true ↔ og_M (pv_m up) (fun z => bt m z = true) x) → post r) :
    ∀ d i s, i + d = 12 → (∀ x, bt s x = true ↔ x < i ∧ og_M (pv_m up) (fun z => bt m z = true) x) → wX_greatest_4 post m cap cnt dl dr tm lf rg up dn ro fl fr bi su tg tt ns (d + 1) s (nI i) := by
  intro d
  induction d with
  | zero =>
    intro i s hi hs
    refine pk_le 12 i (fun _ => h s (fun x => (hs x).trans ⟨fun h => h.2, fun h => ⟨?_, h⟩⟩)) (fun z => absurd hi (by omega))
    have := hm x h.1
    omega
  | succ d ih =>
    intro i s hi hs
    refine pk_le 12 i (fun z => absurd hi (by omega)) (fun _ => nm_e (xw_has (by omega) (fun hb => nm_r (nI_1 i) (ih (i + 1) s (by omega) ?_)) (fun hb => ⟨vp_in_nI (by omega) (by omega), ?_⟩)))
    · intro x
      refine (hs x).trans ⟨fun h => ⟨by omega, h.2⟩, fun h => ⟨?_, h.2⟩⟩
      by_cases e : x = i
      · subst e
        have this : bt m x = true := h.2.1
        rw [hb] at this
        exact absurd this (by decide)
      · omega
    · rw [nI_clamp (by omega)]
      refine br_c (fun z => nm_e (nm_r (nI_1 i) (ih (i + 1) _ (by omega) ?_))) (fun z => nm_r (nI_1 i) (ih (i + 1) s (by omega) ?_))
      · rw [bb_dom (by omega)] at z
        intro x
        rw [bb_setT (by omega), hs x]
        constructor
        · rintro (⟨h1, h2⟩ | e)
          · exact ⟨by omega, h2⟩
          · subst e; exact ⟨by omega, hb, z⟩
        · rintro ⟨h1, h2⟩
          by_cases e : x = i
          · exact Or.inr e
          · exact Or.inl ⟨by omega, h2⟩
      · rw [bb_dom (by omega)] at z
        intro x
        refine (hs x).trans ⟨fun h => ⟨by omega, h.2⟩, fun h => ⟨?_, h.2⟩⟩
        by_cases e : x = i
        · subst e; exact absurd h.2.2 z
        · omega
theorem xw_gr {post : Int32 → Prop} {m : Int32} (hm : ∀ x, bt m x = true → x < 12) (h : ∀ r, (∀ x, bt r x = true ↔ og_M (pv_m up) (fun z => bt m z = true) x) → post r) : wpX_greatest post (cap, cnt, dl, dr, tm, lf, rg, up, dn, ro, fl, fr, bi, su, tg, tt, ns) m :=
  ⟨13, xw_gr4 hm h 12 0 0 rfl (fun x => ⟨fun z => absurd z (bb_0F x), fun ⟨z, _⟩ => absurd z (Nat.not_lt_zero x)⟩)⟩
theorem xw_ls4 {post : Int32 → Prop} {m : Int32} (hm : ∀ x, bt m x = true → x < 12) (h : ∀ r, (∀ x, bt r x = true ↔ og_M (pv_m dn) (fun z => bt m z = true) x) → post r) :
    ∀ d i s, i + d = 12 → (∀ x, bt s x = true ↔ x < i ∧ og_M (pv_m dn) (fun z => bt m z = true) x) → wX_least_4 post m cap cnt dl dr tm lf rg up dn ro fl fr bi su tg tt ns (d + 1) s (nI i) := by
  intro d
  induction d with
  | zero =>
    intro i s hi hs
    refine pk_le 12 i (fun _ => h s (fun x => (hs x).trans ⟨fun h => h.2, fun h => ⟨?_, h⟩⟩)) (fun z => absurd hi (by omega))
    have := hm x h.1
    omega
  | succ d ih =>
    intro i s hi hs
    refine pk_le 12 i (fun z => absurd hi (by omega)) (fun _ => nm_e (xw_has (by omega) (fun hb => nm_r (nI_1 i) (ih (i + 1) s (by omega) ?_)) (fun hb => ⟨vp_in_nI (by omega) (by omega), ?_⟩)))
    · intro x
      refine (hs x).trans ⟨fun h => ⟨by omega, h.2⟩, fun h => ⟨?_, h.2⟩⟩
      by_cases e : x = i
      · subst e
        have this : bt m x = true := h.2.1
        rw [hb] at this
        exact absurd this (by decide)
      · omega
    · rw [nI_clamp (by omega)]
      refine br_c (fun z => nm_e (nm_r (nI_1 i) (ih (i + 1) _ (by omega) ?_))) (fun z => nm_r (nI_1 i) (ih (i + 1) s (by omega) ?_))
      · rw [bb_dom (by omega)] at z
        intro x
        rw [bb_setT (by omega), hs x]
        constructor
        · rintro (⟨h1, h2⟩ | e)
          · exact ⟨by omega, h2⟩
          · subst e; exact ⟨by omega, hb, z⟩
        · rintro ⟨h1, h2⟩
          by_cases e : x = i
          · exact Or.inr e
          · exact Or.inl ⟨by omega, h2⟩
      · rw [bb_dom (by omega)] at z
        intro x
        refine (hs x).trans ⟨fun h => ⟨by omega, h.2⟩, fun h => ⟨?_, h.2⟩⟩
        by_cases e : x = i
        · subst e; exact absurd h.2.2 z
        · omega
theorem xw_ls {post : Int32 → Prop} {m : Int32} (hm : ∀ x, bt m x = true → x < 12) (h : ∀ r, (∀ x, bt r x = true ↔ og_M (pv_m dn) (fun z => bt m z = true) x) → post r) : wpX_least post (cap, cnt, dl, dr, tm, lf, rg, up, dn, ro, fl, fr, bi, su, tg, tt, ns) m :=
  ⟨13, xw_ls4 hm h 12 0 0 rfl (fun x => ⟨fun z => absurd z (bb_0F x), fun ⟨z, _⟩ => absurd z (Nat.not_lt_zero x)⟩)⟩
/-! birthdays -/
def pv_bf (m : Int32) (b : Nat → Int32) : Nat → Int32
  | 0 => 0
  | k + 1 => if bt m k = true then (if b k < pv_bf m b k then pv_bf m b k else b k + 1) else pv_bf m b k
theorem pv_bf_s (m : Int32) (b : Nat → Int32) (k : Nat) : pv_bf m b (k + 1) = if bt m k = true then (if b k < pv_bf m b k then pv_bf m b k else b k + 1) else pv_bf m b k := rfl
theorem xw_bo4 {post : Int32 → Prop} {m : Int32} (h : post (pv_bf m bi 12)) : ∀ d i, i + d = 12 → wX_birthOf_4 post m cap cnt dl dr tm lf rg up dn ro fl fr bi su tg tt ns (d + 1) (pv_bf m bi i) (nI i) := by
  intro d
  induction d with
  | zero =>
    intro i hi
    obtain rfl : i = 12 := by omega
    exact pk_le 12 12 (fun _ => h) (fun z => absurd z (by omega))
  | succ d ih =>
    intro i hi
    have hs := pv_bf_s m bi i
    have k := ih (i + 1) (by omega)
    refine pk_le 12 i (fun z => absurd hi (by omega)) (fun _ => xw_has (by omega) (fun hb => nm_r (nI_1 i) ?_) (fun hb => ⟨vp_in_nI (by omega) (by omega), ?_⟩))
    · rw [hs, if_neg (by rw [hb]; decide)] at k
      exact k
    · rw [nI_clamp (by omega)]
      rw [hs, if_pos hb] at k
      refine br_c (fun z => nm_r (nI_1 i) ?_) (fun z => ⟨vp_in_nI (by omega) (by omega), nm_e (nm_r (nI_1 i) ?_)⟩)
      · rw [if_pos z] at k; exact k
      · rw [if_neg z] at k; exact k
theorem xw_bo {post : Int32 → Prop} {m : Int32} (h : post (pv_bf m bi 12)) : wpX_birthOf post (cap, cnt, dl, dr, tm, lf, rg, up, dn, ro, fl, fr, bi, su, tg, tt, ns) m := ⟨13, xw_bo4 h 12 0 rfl⟩
/-! simplify, copyForm -/
theorem xw_simp {post : SX → Prop} {n : Nat} (hn : n < 12) (hS : og_S (n + 1) (pv_m lf) (pv_m rg) (pv_m up) (pv_rt ro)) (hF : og_F n (pv_m up) (pv_rt ro) (pv_m fl) (pv_m fr))
    (hd : ∀ a b, a < n + 1 → b < n + 1 → (pv_m dn a b ↔ pv_m up b a)) (hr : ∀ g, g < n → pv_rt ro g ≤ g ∧ ro g = nI (pv_rt ro g))
    (h : ∀ A B, (∀ x, bt A x = true ↔ og_M (pv_m up) (og_C (pv_m up) (pv_rt ro) (pv_m fr) n) x) →
      (∀ x, bt B x = true ↔ og_M (fun a b => pv_m up b a) (og_C (fun a b => pv_m up b a) (pv_rt ro) (pv_m fl) n) x) →
      post (cap, cnt, dl, dr, tm, lf, rg, up, dn, ro, upd fl n A, upd fr n B, upd bi n (pv_bf (A ||| B) bi 12), su, tg, tt, ns)) : wpX_simplify post (cap, cnt, dl, dr, tm, lf, rg, up, dn, ro, fl, fr, bi, su, tg, tt, ns) (nI n) := by
  unfold wpX_simplify
  dsimp only
  refine xw_byLeft hn hS hF (fun z hz => hd n z (by omega) (by omega)) hr (fun r1 h1 => ?_)
  refine xw_byRight hn (og_S_swap hS) (og_F_swap hF) (fun z hz => Iff.rfl) hr (fun r2 h2 => ?_)
  have l1 : ∀ x, bt r1 x = true → x < 12 := fun x hx => Nat.lt_trans (h1.1 x hx).1 hn
  have l2 : ∀ x, bt r2 x = true → x < 12 := fun x hx => Nat.lt_trans (h2.1 x hx).1 hn
  refine xw_gr l1 (fun A hA => ⟨vp_in_nI hn (by omega), ?_⟩)
  rw [nI_clamp (by omega)]
  refine nm_e (xw_ls l2 (fun B hB => ⟨vp_in_nI hn (by omega), nm_e ⟨vp_in_nI hn (by omega), vp_in_nI hn (by omega), ?_⟩⟩))
  rw [pk_us, pk_us]
  refine xw_bo ⟨vp_in_nI hn (by omega), nm_e (h A B ?_ ?_)⟩
  · intro x
    exact (hA x).trans (og_BI_end (by omega) hS h1 x)
  · intro x
    refine (hB x).trans (Iff.trans ?_ (og_BI_end (by omega) (og_S_swap hS) h2 x))
    have c : ∀ a b, bt r2 a = true → bt r2 b = true → (pv_m dn a b ↔ pv_m up b a) := fun a b ha hb => hd a b (Nat.lt_succ_of_lt (h2.1 a ha).1) (Nat.lt_succ_of_lt (h2.1 b hb).1)
    exact ⟨fun z => ⟨z.1, fun y hy l => z.2 y hy ((c x y z.1 hy).mpr l)⟩, fun z => ⟨z.1, fun y hy l => z.2 y hy ((c x y z.1 hy).mp l)⟩⟩
theorem xw_copy {post : SX → Prop} {n r : Nat} (hn : n < 12) (hr : r < 12) (he : ro n = nI r)
    (h : post (cap, cnt, dl, dr, tm, lf, rg, up, dn, ro, upd fl n (fl r), upd fr n (fr r), upd bi n (bi r), su, tg, tt, ns)) : wpX_copyForm post (cap, cnt, dl, dr, tm, lf, rg, up, dn, ro, fl, fr, bi, su, tg, tt, ns) (nI n) := by
  have i1 := vp_in_nI hn (show 12 < 2 ^ 31 by omega)
  have i2 := vp_in_nI hr (show 12 < 2 ^ 31 by omega)
  refine ⟨i1, nm_r (e' := nI r) (by rw [nI_clamp (by omega)]; exact he) ?_⟩
  rw [nI_clamp (show n < 2 ^ 31 by omega), nI_clamp (show r < 2 ^ 31 by omega)]
  exact ⟨i2, i1, nm_e ⟨i2, i1, nm_e ⟨i2, i1, nm_e h⟩⟩⟩
end XS
end
section
/-! X: linkOrder -/
section LK
variable {cap cnt dl dr tm : Int32} {lf rg up dn ro fl fr bi su tg tt : Nat → Int32} {ns : Nat}
theorem pv_set {f : Nat → Int32} {k n : Nat} (hn : n < 32) (a b : Nat) : pv_m (upd f k (f k ||| ((1 : Int32) <<< (nI n &&& 31)))) a b ↔ pv_m f a b ∨ (a = k ∧ b = n) := by
  unfold pv_m
  by_cases e : a = k
  · subst e
    rw [pk_us, bb_setT hn]
    exact ⟨fun h => h.imp id (fun z => ⟨rfl, z⟩), fun h => h.imp id (fun z => z.2)⟩
  · rw [pk_un e]
    exact ⟨Or.inl, fun h => h.elim id (fun z => absurd z.1 e)⟩
theorem xw_lk130 {post : SX → Prop} {J : Int32 → (Nat → Int32) → (Nat → Int32) → (Nat → Int32) → (Nat → Int32) → (Nat → Int32) → (Nat → Int32) → (Nat → Int32) → (Nat → Int32) → (Nat → Int32) → (Nat → Int32) → (Nat → Int32) → Prop}
    {n i : Nat} (hn : n < 12) (hi : i < n) {A : Prop} {z : Int32} (hz : (z = 1 ∧ A) ∨ (z = 0 ∧ ¬ A))
    (H : ∀ up' dn', (∀ a b, pv_m up' a b ↔ pv_m up a b ∨ (A ∧ a = n ∧ b = i)) → (∀ a b, pv_m dn' a b ↔ pv_m dn a b ∨ (A ∧ a = i ∧ b = n)) → J (nI (i + 1)) lf rg up' dn' ro fl fr bi su tg tt) :
    wX_linkOrder_130 post J (nI n) ((1 : Int32) <<< (nI n &&& 31)) (nI i) z cap cnt dl dr tm lf rg up dn ro fl fr bi su tg tt ns := by
  have i1 := vp_in_nI hn (show 12 < 2 ^ 31 by omega)
  have i2 := vp_in_nI (show i < 12 by omega) (show 12 < 2 ^ 31 by omega)
  rcases hz with ⟨rfl, hA⟩ | ⟨rfl, hA⟩
  · refine br_f (by decide) ⟨i2, i2, ?_⟩
    rw [nI_clamp (show n < 2 ^ 31 by omega), nI_clamp (show i < 2 ^ 31 by omega)]
    refine nm_e ⟨i1, i1, nm_e (nm_r (nI_1 i) (H _ _ (fun a b => ?_) (fun a b => ?_)))⟩
    · rw [pv_set (by omega)]
      exact ⟨fun h => h.imp id (fun z => ⟨hA, z⟩), fun h => h.imp id (fun z => z.2)⟩
    · rw [pv_set (by omega)]
      exact ⟨fun h => h.imp id (fun z => ⟨hA, z⟩), fun h => h.imp id (fun z => z.2)⟩
  · exact br_t rfl (nm_r (nI_1 i) (H up dn (fun a b => ⟨Or.inl, fun h => h.elim id (fun z => absurd z.1 hA)⟩) (fun a b => ⟨Or.inl, fun h => h.elim id (fun z => absurd z.1 hA)⟩)))
theorem xw_lk101 {post : SX → Prop} {J : Int32 → (Nat → Int32) → (Nat → Int32) → (Nat → Int32) → (Nat → Int32) → (Nat → Int32) → (Nat → Int32) → (Nat → Int32) → (Nat → Int32) → (Nat → Int32) → (Nat → Int32) → (Nat → Int32) → Prop}
    {n i : Nat} (hn : n < 12) (hi : i < n) {A B : Prop} {y z : Int32} (hy : (y = 1 ∧ B) ∨ (y = 0 ∧ ¬ B)) (hz : (z = 1 ∧ A) ∨ (z = 0 ∧ ¬ A))
    (H : ∀ up' dn', (∀ a b, pv_m up' a b ↔ pv_m up a b ∨ (B ∧ a = i ∧ b = n) ∨ (A ∧ a = n ∧ b = i)) → (∀ a b, pv_m dn' a b ↔ pv_m dn a b ∨ (B ∧ a = n ∧ b = i) ∨ (A ∧ a = i ∧ b = n)) → J (nI (i + 1)) lf rg up' dn' ro fl fr bi su tg tt) :
    wX_linkOrder_101 post J (nI n) ((1 : Int32) <<< (nI n &&& 31)) (nI i) y z cap cnt dl dr tm lf rg up dn ro fl fr bi su tg tt ns := by
  have i1 := vp_in_nI hn (show 12 < 2 ^ 31 by omega)
  have i2 := vp_in_nI (show i < 12 by omega) (show 12 < 2 ^ 31 by omega)
  rcases hy with ⟨rfl, hB⟩ | ⟨rfl, hB⟩
  · refine br_f (by decide) ⟨i2, i2, ?_⟩
    rw [nI_clamp (show n < 2 ^ 31 by omega), nI_clamp (show i < 2 ^ 31 by omega)]
    refine nm_e ⟨i1, i1, nm_e (xw_lk130 hn hi hz (fun up' dn' h1 h2 => H up' dn' (fun a b => ?_) (fun a b => ?_)))⟩
    · rw [h1 a b, pv_set (by omega), or_assoc]
      exact ⟨fun h => h.imp id (fun z => z.imp (fun w => ⟨hB, w⟩) id), fun h => h.imp id (fun z => z.imp (fun w => w.2) id)⟩
    · rw [h2 a b, pv_set (by omega), or_assoc]
      exact ⟨fun h => h.imp id (fun z => z.imp (fun w => ⟨hB, w⟩) id), fun h => h.imp id (fun z => z.imp (fun w => w.2) id)⟩
  · refine br_t rfl (xw_lk130 hn hi hz (fun up' dn' h1 h2 => H up' dn' (fun a b => ?_) (fun a b => ?_)))
    · rw [h1 a b]
      exact ⟨fun h => h.imp id Or.inr, fun h => h.imp id (fun z => z.elim (fun w => absurd w.1 hB) id)⟩
    · rw [h2 a b]
      exact ⟨fun h => h.imp id Or.inr, fun h => h.imp id (fun z => z.elim (fun w => absurd w.1 hB) id)⟩
theorem xw_lk62 {post : SX → Prop} {J : Int32 → (Nat → Int32) → (Nat → Int32) → (Nat → Int32) → (Nat → Int32) → (Nat → Int32) → (Nat → Int32) → (Nat → Int32) → (Nat → Int32) → (Nat → Int32) → (Nat → Int32) → (Nat → Int32) → Prop}
    {n i : Nat} (hn : n < 12) (hi : i < n) {B : Prop} {y : Int32} (hy : (y = 1 ∧ B) ∨ (y = 0 ∧ ¬ B))
    (H : ∀ up' dn', (∀ a b, pv_m up' a b ↔ pv_m up a b ∨ (B ∧ a = i ∧ b = n) ∨ (((lf n &&& up i) = 0 ∧ (rg i &&& dn n) = 0) ∧ a = n ∧ b = i)) → (∀ a b, pv_m dn' a b ↔ pv_m dn a b ∨ (B ∧ a = n ∧ b = i) ∨ (((lf n &&& up i) = 0 ∧ (rg i &&& dn n) = 0) ∧ a = i ∧ b = n)) → J (nI (i + 1)) lf rg up' dn' ro fl fr bi su tg tt) :
    wX_linkOrder_62 post J (nI n) ((1 : Int32) <<< (nI n &&& 31)) (nI i) y cap cnt dl dr tm lf rg up dn ro fl fr bi su tg tt ns := by
  have i1 := vp_in_nI hn (show 12 < 2 ^ 31 by omega)
  have i2 := vp_in_nI (show i < 12 by omega) (show 12 < 2 ^ 31 by omega)
  refine ⟨i1, i2, ?_⟩
  rw [nI_clamp (show n < 2 ^ 31 by omega), nI_clamp (show i < 2 ^ 31 by omega)]
  refine br_c (fun z1 => ⟨i2, i1, br_c (fun z2 => xw_lk101 hn hi hy (Or.inl ⟨rfl, z1, z2⟩) H) (fun z2 => xw_lk101 hn hi hy (Or.inr ⟨rfl, fun w => z2 w.2⟩) H)⟩) (fun z1 => xw_lk101 hn hi hy (Or.inr ⟨rfl, fun w => z1 w.1⟩) H)
/-- what the loop keeps -/
def pv_LI (n i : Nat) (lf rg U D up dn : Nat → Int32) : Prop :=
  (∀ a b, a < n → b ≠ n → ((pv_m up a b ↔ pv_m U a b) ∧ (pv_m dn a b ↔ pv_m D a b))) ∧
  (∀ a, a < n → ((pv_m up a n ↔ pv_m dn n a) ∧ (pv_m dn a n ↔ pv_m up n a))) ∧
  (∀ a, (pv_m up n a → a < i) ∧ (pv_m dn n a → a < i)) ∧
  (∀ x, x < i → (pv_m dn n x ↔ (∀ l, pv_m lf x l → ¬ pv_m up n l) ∧ (∀ r, pv_m rg n r → ¬ pv_m U r x))) ∧
  (∀ x, x < i → (pv_m up n x ↔ (∀ l, pv_m lf n l → ¬ pv_m U x l) ∧ (∀ r, pv_m rg x r → ¬ pv_m dn n r)))
theorem pv_LI_step {n i : Nat} {U D up' dn' : Nat → Int32} (hn : n < 12) (hi : i < n) (hl : og_Dn 12 (pv_m lf)) (hr : og_Dn 12 (pv_m rg)) (ht : ∀ a b, a < n → b < n → (pv_m D a b ↔ pv_m U b a))
    {A B : Prop} (hB : B ↔ (lf i &&& up n) = 0 ∧ (rg n &&& dn i) = 0) (hA : A ↔ (lf n &&& up i) = 0 ∧ (rg i &&& dn n) = 0)
    (h1 : ∀ a b, pv_m up' a b ↔ pv_m up a b ∨ (B ∧ a = i ∧ b = n) ∨ (A ∧ a = n ∧ b = i)) (h2 : ∀ a b, pv_m dn' a b ↔ pv_m dn a b ∨ (B ∧ a = n ∧ b = i) ∨ (A ∧ a = i ∧ b = n))
    (h : pv_LI n i lf rg U D up dn) : pv_LI n (i + 1) lf rg U D up' dn' := by
  obtain ⟨c1, c2, c3, c4, c5⟩ := h
  have hB' : B ↔ (∀ l, pv_m lf i l → ¬ pv_m up n l) ∧ (∀ r, pv_m rg n r → ¬ pv_m U r i) := by
    rw [hB, bb_and0, bb_and0]
    constructor
    · rintro ⟨q1, q2⟩
      refine ⟨q1, fun r hr1 hu => q2 r hr1 ?_⟩
      have hrn := hr n r (by omega) hr1
      exact (c1 i r hi (by omega)).2.mpr ((ht i r hi hrn).mpr hu)
    · rintro ⟨q1, q2⟩
      refine ⟨q1, fun r hr1 hu => q2 r hr1 ?_⟩
      have hrn := hr n r (by omega) hr1
      exact (ht i r hi hrn).mp ((c1 i r hi (by omega)).2.mp hu)
  have hA' : A ↔ (∀ l, pv_m lf n l → ¬ pv_m U i l) ∧ (∀ r, pv_m rg i r → ¬ pv_m dn n r) := by
    rw [hA, bb_and0, bb_and0]
    constructor
    · rintro ⟨q1, q2⟩
      refine ⟨fun l hl1 hu => q1 l hl1 ?_, q2⟩
      have hln := hl n l (by omega) hl1
      exact (c1 i l hi (by omega)).1.mpr hu
    · rintro ⟨q1, q2⟩
      refine ⟨fun l hl1 hu => q1 l hl1 ?_, q2⟩
      have hln := hl n l (by omega) hl1
      exact (c1 i l hi (by omega)).1.mp hu
  have un : ∀ b, b ≠ i → (pv_m up' n b ↔ pv_m up n b) := fun b hb => (h1 n b).trans ⟨fun z => z.elim id (fun w => w.elim (fun v => absurd v.2.1 (by omega)) (fun v => absurd v.2.2 hb)), Or.inl⟩
  have dnn : ∀ b, b ≠ i → (pv_m dn' n b ↔ pv_m dn n b) := fun b hb => (h2 n b).trans ⟨fun z => z.elim id (fun w => w.elim (fun v => absurd v.2.2 hb) (fun v => absurd v.2.1 (by omega))), Or.inl⟩
  have ui : pv_m up' n i ↔ A := (h1 n i).trans ⟨fun z => z.elim (fun v => absurd ((c3 i).1 v) (by omega)) (fun w => w.elim (fun v => absurd v.2.1 (by omega)) (fun v => v.1)), fun a => Or.inr (Or.inr ⟨a, rfl, rfl⟩)⟩
  have di : pv_m dn' n i ↔ B := (h2 n i).trans ⟨fun z => z.elim (fun v => absurd ((c3 i).2 v) (by omega)) (fun w => w.elim (fun v => v.1) (fun v => absurd v.2.1 (by omega))), fun a => Or.inr (Or.inl ⟨a, rfl, rfl⟩)⟩
  refine ⟨fun a b ha hb => ⟨?_, ?_⟩, fun a ha => ⟨?_, ?_⟩, fun a => ⟨fun z => ?_, fun z => ?_⟩, fun x hx => ?_, fun x hx => ?_⟩
  · rw [h1 a b, ← (c1 a b ha hb).1]
    exact ⟨fun z => z.elim id (fun w => w.elim (fun v => absurd v.2.2 hb) (fun v => absurd v.2.1 (by omega))), Or.inl⟩
  · rw [h2 a b, ← (c1 a b ha hb).2]
    exact ⟨fun z => z.elim id (fun w => w.elim (fun v => absurd v.2.1 (by omega)) (fun v => absurd v.2.2 hb)), Or.inl⟩
  · by_cases e : a = i
    · subst e
      rw [di, h1 a n, (c2 a ha).1]
      exact ⟨fun z => z.elim (fun v => absurd ((c3 a).2 v) (by omega)) (fun w => w.elim (fun v => v.1) (fun v => absurd v.2.1 (by omega))), fun b => Or.inr (Or.inl ⟨b, rfl, rfl⟩)⟩
    · rw [dnn a e, h1 a n, (c2 a ha).1]
      exact ⟨fun z => z.elim id (fun w => w.elim (fun v => absurd v.2.1 e) (fun v => absurd v.2.2 (by omega))), Or.inl⟩
  · by_cases e : a = i
    · subst e
      rw [ui, h2 a n, (c2 a ha).2]
      exact ⟨fun z => z.elim (fun v => absurd ((c3 a).1 v) (by omega)) (fun w => w.elim (fun v => absurd v.2.1 (by omega)) (fun v => v.1)), fun b => Or.inr (Or.inr ⟨b, rfl, rfl⟩)⟩
    · rw [un a e, h2 a n, (c2 a ha).2]
      exact ⟨fun z => z.elim id (fun w => w.elim (fun v => absurd v.2.2 (by omega)) (fun v => absurd v.2.1 e)), Or.inl⟩
  · by_cases e : a = i
    · omega
    · have := (c3 a).1 ((un a e).mp z); omega
  · by_cases e : a = i
    · omega
    · have := (c3 a).2 ((dnn a e).mp z); omega
  · have hl' : ∀ l, pv_m lf x l → (pv_m up' n l ↔ pv_m up n l) := by
      intro l hlx
      have := hl x l (by omega) hlx
      exact un l (by omega)
    by_cases e : x = i
    · subst e
      rw [di, hB']
      exact ⟨fun z => ⟨fun l q w => z.1 l q ((hl' l q).mp w), z.2⟩, fun z => ⟨fun l q w => z.1 l q ((hl' l q).mpr w), z.2⟩⟩
    · rw [dnn x e, c4 x (by omega)]
      exact ⟨fun z => ⟨fun l q w => z.1 l q ((hl' l q).mp w), z.2⟩, fun z => ⟨fun l q w => z.1 l q ((hl' l q).mpr w), z.2⟩⟩
  · have hr' : ∀ r, pv_m rg x r → (pv_m dn' n r ↔ pv_m dn n r) := by
      intro r hrx
      have := hr x r (by omega) hrx
      exact dnn r (by omega)
    by_cases e : x = i
    · subst e
      rw [ui, hA']
      exact ⟨fun z => ⟨z.1, fun l q w => z.2 l q ((hr' l q).mp w)⟩, fun z => ⟨z.1, fun l q w => z.2 l q ((hr' l q).mpr w)⟩⟩
    · rw [un x e, c5 x (by omega)]
      exact ⟨fun z => ⟨z.1, fun l q w => z.2 l q ((hr' l q).mp w)⟩, fun z => ⟨z.1, fun l q w => z.2 l q ((hr' l q).mpr w)⟩⟩
/-- what the orders are when the loop is done -/
def pv_LE (n : Nat) (lf rg U up dn : Nat → Int32) : Prop :=
  (∀ a b, a < n + 1 → ((pv_m up a b → b < n + 1) ∧ (pv_m dn a b → b < n + 1))) ∧ (∀ a b, a < n + 1 → b < n + 1 → (pv_m dn a b ↔ pv_m up b a)) ∧
  og_Ord (n + 1) (pv_m lf) (pv_m rg) (pv_m up) ∧ (∀ a b, a < n → b < n → (pv_m up a b ↔ pv_m U a b))
theorem pv_LI_end {n : Nat} {U D up' dn' : Nat → Int32} (hn : n < 12) (hl : og_Dn 12 (pv_m lf)) (hr : og_Dn 12 (pv_m rg)) (hb : ∀ a b, a < n → ((pv_m U a b → b < n) ∧ (pv_m D a b → b < n)))
    (ht : ∀ a b, a < n → b < n → (pv_m D a b ↔ pv_m U b a)) (hO : og_Ord n (pv_m lf) (pv_m rg) (pv_m U))
    (h1 : ∀ a b, pv_m up' a b ↔ pv_m up a b ∨ (a = n ∧ b = n)) (h2 : ∀ a b, pv_m dn' a b ↔ pv_m dn a b ∨ (a = n ∧ b = n))
    (h : pv_LI n n lf rg U D up dn) : pv_LE n lf rg U up' dn' := by
  obtain ⟨c1, c2, c3, c4, c5⟩ := h
  have hl' : og_Dn n (pv_m lf) := fun a x ha => hl a x (by omega)
  have hr' : og_Dn n (pv_m rg) := fun a x ha => hr a x (by omega)
  have u0 : ∀ a b, a ≠ n → (pv_m up' a b ↔ pv_m up a b) := fun a b e => (h1 a b).trans ⟨fun z => z.elim id (fun w => absurd w.1 e), Or.inl⟩
  have d0 : ∀ a b, a ≠ n → (pv_m dn' a b ↔ pv_m dn a b) := fun a b e => (h2 a b).trans ⟨fun z => z.elim id (fun w => absurd w.1 e), Or.inl⟩
  have u1 : ∀ a b, b ≠ n → (pv_m up' a b ↔ pv_m up a b) := fun a b e => (h1 a b).trans ⟨fun z => z.elim id (fun w => absurd w.2 e), Or.inl⟩
  have d1 : ∀ a b, b ≠ n → (pv_m dn' a b ↔ pv_m dn a b) := fun a b e => (h2 a b).trans ⟨fun z => z.elim id (fun w => absurd w.2 e), Or.inl⟩
  have uu : ∀ a b, a < n → b < n → (pv_m up' a b ↔ pv_m U a b) := fun a b ha hb2 => (u0 a b (by omega)).trans (c1 a b ha (by omega)).1
  have dd : ∀ a b, a < n → b < n → (pv_m dn' a b ↔ pv_m D a b) := fun a b ha hb2 => (d0 a b (by omega)).trans (c1 a b ha (by omega)).2
  have unn : pv_m up' n n := (h1 n n).mpr (Or.inr ⟨rfl, rfl⟩)
  have uan : ∀ a, a < n → (pv_m up' a n ↔ pv_m dn n a) := fun a ha => (u0 a n (by omega)).trans (c2 a ha).1
  have una : ∀ a, a < n → (pv_m up' n a ↔ pv_m up n a) := fun a ha => u1 n a (by omega)
  have dna : ∀ a, a < n → (pv_m dn' n a ↔ pv_m dn n a) := fun a ha => d1 n a (by omega)
  refine ⟨fun a b ha => ⟨fun z => ?_, fun z => ?_⟩, fun a b ha hb2 => ?_, fun a b ha hb2 => ?_, uu⟩
  · by_cases e : b = n
    · omega
    · have z := (u1 a b e).mp z
      by_cases e2 : a = n
      · subst e2
        have := (c3 b).1 z; omega
      · have := (hb a b (by omega)).1 ((c1 a b (by omega) e).1.mp z); omega
  · by_cases e : b = n
    · omega
    · have z := (d1 a b e).mp z
      by_cases e2 : a = n
      · subst e2
        have := (c3 b).2 z; omega
      · have := (hb a b (by omega)).2 ((c1 a b (by omega) e).2.mp z); omega
  · by_cases ea : a = n
    · by_cases eb : b = n
      · subst ea; subst eb
        exact ⟨fun _ => unn, fun _ => (h2 b b).mpr (Or.inr ⟨rfl, rfl⟩)⟩
      · subst ea
        rw [dna b (by omega), uan b (by omega)]
    · by_cases eb : b = n
      · subst eb
        rw [una a (by omega), d0 a b ea, (c2 a (by omega)).2]
      · rw [dd a b (by omega) (by omega), uu b a (by omega) (by omega), ht a b (by omega) (by omega)]
  · by_cases ea : a = n
    · by_cases eb : b = n
      · subst ea; subst eb
        refine ⟨fun _ => ⟨fun l hl1 z => ?_, fun r hr1 z => ?_⟩, fun _ => unn⟩
        · have hln := hl b l (by omega) hl1
          have z := (c5 l hln).mp ((una l hln).mp z)
          exact z.1 l hl1 (og_refl hO hl' hr' l hln)
        · have hrn := hr b r (by omega) hr1
          have z := (c4 r hrn).mp ((uan r hrn).mp z)
          exact z.2 r hr1 (og_refl hO hl' hr' r hrn)
      · subst ea
        rw [una b (by omega), c5 b (by omega)]
        constructor
        · rintro ⟨q1, q2⟩
          refine ⟨fun l hl1 z => q1 l hl1 ?_, fun r hr1 z => q2 r hr1 ?_⟩
          · have hln := hl a l (by omega) hl1
            exact (uu b l (by omega) hln).mp z
          · have hrn := hr b r (by omega) hr1
            exact (uan r (by omega)).mp z
        · rintro ⟨q1, q2⟩
          refine ⟨fun l hl1 z => q1 l hl1 ?_, fun r hr1 z => q2 r hr1 ?_⟩
          · have hln := hl a l (by omega) hl1
            exact (uu b l (by omega) hln).mpr z
          · have hrn := hr b r (by omega) hr1
            exact (uan r (by omega)).mpr z
    · by_cases eb : b = n
      · subst eb
        rw [uan a (by omega), c4 a (by omega)]
        constructor
        · rintro ⟨q1, q2⟩
          refine ⟨fun l hl1 z => q1 l hl1 ?_, fun r hr1 z => q2 r hr1 ?_⟩
          · have hln := hl a l (by omega) hl1
            exact (una l (by omega)).mp z
          · have hrn := hr b r (by omega) hr1
            exact (uu r a hrn (by omega)).mp z
        · rintro ⟨q1, q2⟩
          refine ⟨fun l hl1 z => q1 l hl1 ?_, fun r hr1 z => q2 r hr1 ?_⟩
          · have hln := hl a l (by omega) hl1
            exact (una l (by omega)).mpr z
          · have hrn := hr b r (by omega) hr1
            exact (uu r a hrn (by omega)).mpr z
      · rw [uu a b (by omega) (by omega), hO a b (by omega) (by omega)]
        constructor
        · rintro ⟨q1, q2⟩
          refine ⟨fun l hl1 z => q1 l hl1 ?_, fun r hr1 z => q2 r hr1 ?_⟩
          · have hln := hl a l (by omega) hl1
            exact (uu b l (by omega) (by omega)).mp z
          · have hrn := hr b r (by omega) hr1
            exact (uu r a (by omega) (by omega)).mp z
        · rintro ⟨q1, q2⟩
          refine ⟨fun l hl1 z => q1 l hl1 ?_, fun r hr1 z => q2 r hr1 ?_⟩
          · have hln := hl a l (by omega) hl1
            exact (uu b l (by omega) (by omega)).mpr z
          · have hrn := hr b r (by omega) hr1
            exact (uu r a (by omega) (by omega)).mpr z
theorem xw_lk20 {post : SX → Prop} {n : Nat} {U D : Nat → Int32} (hn : n < 12) (hl : og_Dn 12 (pv_m lf)) (hr : og_Dn 12 (pv_m rg)) (hb : ∀ a b, a < n → ((pv_m U a b → b < n) ∧ (pv_m D a b → b < n)))
    (ht : ∀ a b, a < n → b < n → (pv_m D a b ↔ pv_m U b a)) (hO : og_Ord n (pv_m lf) (pv_m rg) (pv_m U))
    (h : ∀ up' dn', pv_LE n lf rg U up' dn' → post (cap, cnt, dl, dr, tm, lf, rg, up', dn', ro, fl, fr, bi, su, tg, tt, ns)) :
    ∀ d i up dn, i + d = n → pv_LI n i lf rg U D up dn → wX_linkOrder_20 post (nI n) ((1 : Int32) <<< (nI n &&& 31)) cap cnt dl dr tm ns (d + 1) (nI i) lf rg up dn ro fl fr bi su tg tt := by
  intro d
  have i1 := vp_in_nI hn (show 12 < 2 ^ 31 by omega)
  induction d with
  | zero =>
    intro i up dn hi hI
    obtain rfl : i = n := by omega
    refine pk_le i i (fun _ => ⟨i1, i1, ?_⟩) (fun z => absurd z (by omega))
    rw [nI_clamp (show i < 2 ^ 31 by omega)]
    exact nm_e ⟨i1, i1, nm_e (h _ _ (pv_LI_end hn hl hr hb ht hO (fun a b => pv_set (by omega) a b) (fun a b => pv_set (by omega) a b) hI))⟩
  | succ d ih =>
    intro i up dn hi hI
    have i2 := vp_in_nI (show i < 12 by omega) (show 12 < 2 ^ 31 by omega)
    refine pk_le n i (fun z => absurd z (by omega)) (fun _ => ⟨i2, i1, ?_⟩)
    rw [nI_clamp (show n < 2 ^ 31 by omega), nI_clamp (show i < 2 ^ 31 by omega)]
    refine br_c (fun z1 => ⟨i1, i2, br_c (fun z2 => ?_) (fun z2 => ?_)⟩) (fun z1 => ?_)
    · exact xw_lk62 (B := True) hn (by omega) (Or.inl ⟨rfl, trivial⟩) (fun up' dn' h1 h2 => ih (i + 1) up' dn' (by omega) (pv_LI_step hn (by omega) hl hr ht ⟨fun _ => ⟨z1, z2⟩, fun _ => trivial⟩ Iff.rfl h1 h2 hI))
    · exact xw_lk62 (B := False) hn (by omega) (Or.inr ⟨rfl, id⟩) (fun up' dn' h1 h2 => ih (i + 1) up' dn' (by omega) (pv_LI_step hn (by omega) hl hr ht ⟨fun z => z.elim, fun z => z2 z.2⟩ Iff.rfl h1 h2 hI))
    · exact xw_lk62 (B := False) hn (by omega) (Or.inr ⟨rfl, id⟩) (fun up' dn' h1 h2 => ih (i + 1) up' dn' (by omega) (pv_LI_step hn (by omega) hl hr ht ⟨fun z => z.elim, fun z => z1 z.1⟩ Iff.rfl h1 h2 hI))
theorem xw_link {post : SX → Prop} {n : Nat} (hn : n < 12) (hl : og_Dn 12 (pv_m lf)) (hr : og_Dn 12 (pv_m rg)) (hb : ∀ a b, a < n → ((pv_m up a b → b < n) ∧ (pv_m dn a b → b < n)))
    (ht : ∀ a b, a < n → b < n → (pv_m dn a b ↔ pv_m up b a)) (hO : og_Ord n (pv_m lf) (pv_m rg) (pv_m up))
    (h : ∀ up' dn', pv_LE n lf rg up up' dn' → post (cap, cnt, dl, dr, tm, lf, rg, up', dn', ro, fl, fr, bi, su, tg, tt, ns)) : wpX_linkOrder post (cap, cnt, dl, dr, tm, lf, rg, up, dn, ro, fl, fr, bi, su, tg, tt, ns) (nI n) := by
  have i1 := vp_in_nI hn (show 12 < 2 ^ 31 by omega)
  unfold wpX_linkOrder
  dsimp only
  rw [nI_clamp (show n < 2 ^ 31 by omega)]
  refine nm_e ⟨i1, nm_e ⟨i1, nm_e ⟨n + 1, xw_lk20 hn hl hr hb ht hO h n 0 (upd up n 0) (upd dn n 0) (by omega) ?_⟩⟩⟩
  have e : ∀ (f : Nat → Int32) a b, a < n → (pv_m (upd f n 0) a b ↔ pv_m f a b) := by
    intro f a b ha
    unfold pv_m
    rw [pk_un (by omega)]
  have e0 : ∀ (f : Nat → Int32) b, ¬ pv_m (upd f n 0) n b := by
    intro f b
    unfold pv_m
    rw [pk_us]
    exact bb_0F b
  refine ⟨fun a b ha _ => ⟨e _ a b ha, e _ a b ha⟩, fun a ha => ⟨?_, ?_⟩, fun a => ⟨fun z => absurd z (e0 _ a), fun z => absurd z (e0 _ a)⟩, fun x hx => absurd hx (by omega), fun x hx => absurd hx (by omega)⟩
  · rw [e _ a n ha]
    exact ⟨fun z => absurd ((hb a n ha).1 z) (by omega), fun z => absurd z (e0 _ a)⟩
  · rw [e _ a n ha]
    exact ⟨fun z => absurd ((hb a n ha).2 z) (by omega), fun z => absurd z (e0 _ a)⟩
end LK
end
section
/-! X: the sums -/
section XM
variable {cap cnt dl dr tm : Int32} {lf rg up dn ro fl fr bi su tg tt : Nat → Int32} {ns : Nat}
def pv_D (N : Nat) (ro : Nat → Int32) (c : Nat) : Prop := c = 0 ∨ ∃ t g, t < 2 ∧ g < N ∧ pv_rt ro g = g ∧ c = 2 * g + 1 + t
def pv_W (su : Nat → Int32) (s : Nat) (p : Nat → Nat) : Prop := bt (su (pv_en p)) (1 - s) = true
def pv_fo (fl fr : Nat → Int32) : Nat → Nat → Nat → Prop := og_o (og_LRO (pv_m fl) (pv_m fr))
def pv_Wn (fl fr su : Nat → Int32) (s : Nat) (p : Nat → Nat) (i : Nat) : Prop := ∃ c, pv_fo fl fr s (p i) c ∧ ¬ pv_W su (1 - s) (og_fs p i c)
def pv_Gd (fl fr su : Nat → Int32) (p : Nat → Nat) : Prop :=
  (∀ j, 2 ≤ j → ¬ bt (su (pv_en p)) j = true) ∧ ∀ s, s < 2 → (pv_W su s p ↔ ∃ i, i < 3 ∧ pv_Wn fl fr su s p i)
theorem pv_D_le {N : Nat} {c : Nat} (h : pv_D N ro c) : c ≤ 2 * N := by
  rcases h with h | ⟨t, g, ht, hg, _, h⟩ <;> omega
theorem xw_live {A B : Prop} {n c : Nat} (hn : n < 12) (hc : c ≤ 2 * n + 2) (hr : ∀ g, g < n + 1 → pv_rt ro g ≤ g ∧ ro g = nI (pv_rt ro g)) (h0 : ¬ pv_D (n + 1) ro c → A) (h1 : pv_D (n + 1) ro c → B) :
    wpX_isLive (fun r => (r = 0 → A) ∧ (¬ r = 0 → B)) (cap, cnt, dl, dr, tm, lf, rg, up, dn, ro, fl, fr, bi, su, tg, tt, ns) (nI c) := by
  refine pk_eq c 0 (fun z => br_f (by decide) (h1 (Or.inl z))) (fun z => ?_)
  obtain ⟨k, rfl⟩ : ∃ k, c = k + 1 := ⟨c - 1, by omega⟩
  have hk : k / 2 < n + 1 := by omega
  obtain ⟨r1, r2⟩ := hr (k / 2) hk
  refine nm_r (e' := nI (k / 2)) (by rw [nI_pred, pk_shrN (by omega) _ 1 (by decide)]) ⟨vp_in_nI (by omega) (by omega), ?_⟩
  rw [nI_clamp (by omega), r2]
  refine pk_eq (pv_rt ro (k / 2)) (k / 2) (fun e => br_f (by decide) (h1 (Or.inr ⟨k % 2, k / 2, by omega, hk, e, by omega⟩))) (fun e => br_t rfl (h0 ?_))
  rintro (w | ⟨t, g, ht, hg, hrt, w⟩)
  · omega
  · obtain rfl : g = k / 2 := by omega
    exact e hrt
theorem bb_a1 {x : Int32} : (x &&& 1) = 0 ↔ bt x 0 = false := by
  rw [bb_and0]
  constructor
  · intro h
    have := h 0
    cases e : bt x 0
    · rfl
    · exact absurd (by decide) (this e)
  · intro h i hi h1
    rw [bb_1 i (bb_lt hi), decide_eq_true_eq] at h1
    subst h1
    rw [h] at hi
    exact absurd hi (by decide)
theorem bb_a2 {x : Int32} : (x &&& 2) = 0 ↔ bt x 1 = false := by
  rw [bb_and0]
  constructor
  · intro h
    have := h 1
    cases e : bt x 1
    · rfl
    · exact absurd (by decide) (this e)
  · intro h i hi h1
    rw [bb_2 i (bb_lt hi), decide_eq_true_eq] at h1
    subst h1
    rw [h] at hi
    exact absurd hi (by decide)
theorem xw_reply {A B : Prop} {P s : Nat} (hP : P < 32768) (hns : ns = 32768) (hs : s < 2) (h0 : bt (su P) s = true → A) (h1 : bt (su P) s = false → B) :
    wpX_replyFails (fun r => (r = 0 → A) ∧ (¬ r = 0 → B)) (cap, cnt, dl, dr, tm, lf, rg, up, dn, ro, fl, fr, bi, su, tg, tt, ns) (nI P) (nI s) := by
  subst hns
  have h2 : s = 0 ∨ s = 1 := by omega
  rcases h2 with rfl | rfl
  · refine br_t rfl ⟨vp_in_nI hP (by omega), ?_⟩
    rw [nI_clamp (by omega)]
    exact br_c (fun z => br_f (by decide) (h1 (bb_a1.mp z))) (fun z => br_t rfl (h0 (ts_nf fun w => z (bb_a1.mpr w))))
  · refine br_f (by decide) ⟨vp_in_nI hP (by omega), ?_⟩
    rw [nI_clamp (by omega)]
    exact br_c (fun z => br_f (by decide) (h1 (bb_a2.mp z))) (fun z => br_t rfl (h0 (ts_nf fun w => z (bb_a2.mpr w))))
theorem xw_w70 {post : Int32 → Prop} {sh mask rest : Int32} {s g t : Nat} {nx : Nat → Nat} (hs : s < 2) (hg : g < 12) (hns : ns = 32768)
    (hx : ∀ o, o < g → rest ||| (((2 * nI o + 1) + nI t) <<< (sh &&& 31)) = nI (nx o) ∧ nx o < 32768)
    (h1 : ∀ o, o < g → bt mask o = true → bt (su (nx o)) s = false → post 1) (h0 : (∀ o, o < g → bt mask o = true → bt (su (nx o)) s = true) → post 0) :
    ∀ d o, o + d = g → (∀ j, j < o → bt mask j = true → bt (su (nx j)) s = true) → wX_winsByTerm_70 post sh (nI s) (nI g) (nI t) mask rest cap cnt dl dr tm lf rg up dn ro fl fr bi su tg tt ns (d + 1) (nI o) := by
  intro d
  induction d with
  | zero =>
    intro o ho hj
    obtain rfl : o = g := by omega
    exact pk_le o o (fun _ => h0 hj) (fun z => absurd z (by omega))
  | succ d ih =>
    intro o ho hj
    obtain ⟨x1, x2⟩ := hx o (by omega)
    have next : (bt mask o = true → bt (su (nx o)) s = true) → ∀ j, j < o + 1 → bt mask j = true → bt (su (nx j)) s = true := by
      intro k j hjo
      by_cases e : j = o
      · subst e; exact k
      · exact hj j (by omega)
    refine pk_le g o (fun z => absurd z (by omega)) (fun _ => nm_r x1 (xw_has (by omega) (fun hb => nm_r (nI_1 o) (ih (o + 1) (by omega) (next fun w => ?_))) (fun hb => ?_)))
    · rw [hb] at w; exact absurd w (by decide)
    · exact xw_reply x2 hns hs (fun z => nm_r (nI_1 o) (ih (o + 1) (by omega) (next fun _ => z))) (fun z => h1 o (by omega) hb z)
theorem pv_xor {s t : Nat} (hs : s < 2) (ht : t < 2) : (nI s ^^^ nI t) = 0 ↔ (s + t) % 2 = 0 := by
  have h1 : s = 0 ∨ s = 1 := by omega
  have h2 : t = 0 ∨ t = 1 := by omega
  rcases h1 with rfl | rfl <;> rcases h2 with rfl | rfl <;> decide
theorem pv_code {g t : Nat} (hg : g < 12) (ht : t < 2) : (nI (2 * g + 1 + t) - 1) >>> ((1 : Int32) &&& 31) = nI g ∧ (nI (2 * g + 1 + t) - 1) &&& 1 = nI t := by
  have e : nI (2 * g + 1 + t) - 1 = nI (2 * g + t) := by
    rw [show 2 * g + 1 + t = (2 * g + t) + 1 by omega]
    exact nI_pred _
  rw [e, pk_shrN (by omega) _ 1 (by decide), pk_andN (by omega) 1 (by decide)]
  exact ⟨congrArg nI (by omega), congrArg nI (by omega)⟩
theorem pv_nx (o t : Nat) : (2 * nI o + 1) + nI t = nI (2 * o + 1 + t) := by
  rw [show (2 : Int32) * nI o = nI (2 * o) from pk_mul 2 o, nI_1, nI_add]
theorem pv_fs32 {p : Nat → Nat} (hp : ∀ i, i < 3 → p i < 32) {i c : Nat} (hc : c < 32) : ∀ j, j < 3 → og_fs p i c j < 32 := og_fsD (D := fun _ c => c < 32) hp hc
theorem xw_term {A B : Prop} {n s i : Nat} {p : Nat → Nat} (hn : n < 12) (hs : s < 2) (hi : i < 3) (hns : ns = 32768) (hF : og_Dn (n + 1) (pv_m fl)) (hG : og_Dn (n + 1) (pv_m fr))
    (hp : ∀ i, i < 3 → pv_D (n + 1) ro (p i)) (h0 : ¬ pv_Wn fl fr su s p i → A) (h1 : pv_Wn fl fr su s p i → B) :
    wpX_winsByTerm (fun r => (r = 0 → A) ∧ (¬ r = 0 → B)) (cap, cnt, dl, dr, tm, lf, rg, up, dn, ro, fl, fr, bi, su, tg, tt, ns) (nI (pv_en p)) (nI (5 * i)) (nI s) := by
  have hp32 : ∀ i, i < 3 → p i < 32 := fun i hi => by have := pv_D_le (hp i hi); omega
  refine nm_r (bb_get hp32 hi) ?_
  rcases hp i hi with z | ⟨t, g, ht, hg, hrt, z⟩
  · refine br_t (by rw [z]; rfl) (br_t rfl (h0 ?_))
    rintro ⟨c, ⟨t, g, x, ht, e, _⟩, _⟩
    omega
  · rw [z]
    obtain ⟨e1, e2⟩ := pv_code (show g < 12 by omega) ht
    have W : ∀ mask, (∀ x, bt mask x = true ↔ og_LRO (pv_m fl) (pv_m fr) ((s + t) % 2) g x) →
        wX_winsByTerm_55 (fun r => (r = 0 → A) ∧ (¬ r = 0 → B)) (nI (pv_en p)) (nI (5 * i)) (nI s) (nI g) (nI t) mask cap cnt dl dr tm lf rg up dn ro fl fr bi su tg tt ns := by
      intro mask hm
      have hmg : ∀ x, bt mask x = true → x < g := by
        intro x hx
        rcases (hm x).mp hx with ⟨_, w⟩ | ⟨_, w⟩
        · exact hF g x hg w
        · exact hG g x hg w
      refine nm_e ⟨g + 1, xw_w70 (nx := fun o => pv_en (og_fs p i (2 * o + 1 + t))) hs (by omega) hns (fun o ho => ⟨?_, pv_en_lt (pv_fs32 hp32 (by omega))⟩) (fun o ho hb hw => br_f (by decide) (h1 ?_)) (fun hall => br_t rfl (h0 ?_)) g 0 (by omega) (fun j hj => absurd hj (Nat.not_lt_zero j))⟩
      · rw [pv_nx]
        exact bb_put hp32 hi (by omega)
      · refine ⟨2 * o + 1 + t, ⟨t, g, o, ht, z, rfl, (hm o).mp hb⟩, ?_⟩
        unfold pv_W
        rw [show 1 - (1 - s) = s by omega]
        intro w
        have hw : bt (su (pv_en (og_fs p i (2 * o + 1 + t)))) s = false := hw
        rw [hw] at w
        exact absurd w (by decide)
      · rintro ⟨c, ⟨t', g', x, ht', e, rfl, ho⟩, hw⟩
        obtain rfl : t' = t := by omega
        obtain rfl : g' = g := by omega
        have hbx := (hm x).mpr ho
        apply hw
        unfold pv_W
        rw [show 1 - (1 - s) = s by omega]
        exact hall x (hmg x hbx) hbx
    refine br_f (nI_ne0 (by omega) (by omega)) (nm_r e1 (nm_r e2 ?_))
    rw [nI_clamp (show g < 2 ^ 31 by omega)]
    have i1 := vp_in_nI (show g < 12 by omega) (show 12 < 2 ^ 31 by omega)
    refine br_c (fun w => ⟨i1, W _ (fun x => ?_)⟩) (fun w => ⟨i1, W _ (fun x => ?_)⟩)
    · rw [pv_xor hs ht] at w
      rw [w]
      exact ⟨fun q => Or.inl ⟨rfl, q⟩, fun q => q.elim (fun v => v.2) (fun v => absurd v.1 (by decide))⟩
    · rw [pv_xor hs ht] at w
      have w : (s + t) % 2 = 1 := by omega
      rw [w]
      exact ⟨fun q => Or.inr ⟨rfl, q⟩, fun q => q.elim (fun v => absurd v.1 (by decide)) (fun v => v.2)⟩
theorem xw_can {A B : Prop} {n s : Nat} {p : Nat → Nat} (hn : n < 12) (hs : s < 2) (hns : ns = 32768) (hF : og_Dn (n + 1) (pv_m fl)) (hG : og_Dn (n + 1) (pv_m fr))
    (hp : ∀ i, i < 3 → pv_D (n + 1) ro (p i)) (h0 : (¬ ∃ i, i < 3 ∧ pv_Wn fl fr su s p i) → A) (h1 : (∃ i, i < 3 ∧ pv_Wn fl fr su s p i) → B) :
    wpX_canWin (fun r => (r = 0 → A) ∧ (¬ r = 0 → B)) (cap, cnt, dl, dr, tm, lf, rg, up, dn, ro, fl, fr, bi, su, tg, tt, ns) (nI (pv_en p)) (nI s) := by
  unfold wpX_canWin
  dsimp only
  refine xw_term (i := 0) hn hs (by omega) hns hF hG hp (fun z0 => ?_) (fun z => br_f (by decide) (h1 ⟨0, by omega, z⟩))
  refine xw_term (i := 1) hn hs (by omega) hns hF hG hp (fun z1 => ?_) (fun z => br_f (by decide) (h1 ⟨1, by omega, z⟩))
  refine xw_term (i := 2) hn hs (by omega) hns hF hG hp (fun z2 => br_t rfl (h0 ?_)) (fun z => br_f (by decide) (h1 ⟨2, by omega, z⟩))
  rintro ⟨i, hi, w⟩
  have h3 : i = 0 ∨ i = 1 ∨ i = 2 := by omega
  rcases h3 with rfl | rfl | rfl
  · exact z0 w
  · exact z1 w
  · exact z2 w
theorem pv_nb : vp_nar .byte (0 : Int32).toInt8.toInt32 = 0 ∧ vp_nar .byte (1 : Int32).toInt8.toInt32 = 1 ∧ vp_nar .byte (2 : Int32).toInt8.toInt32 = 2 ∧ vp_nar .byte (3 : Int32).toInt8.toInt32 = 3 := by
  rw [vp_nar_byte, vp_nar_byte, vp_nar_byte, vp_nar_byte]
  decide
theorem bb_v3 {P Q : Prop} (a b : Bool) (ha : a = true ↔ P) (hb : b = true ↔ Q) : ∀ j, bt ((if a then 1 else 0) + (if b then 2 else 0) : Int32) j = true ↔ (j = 0 ∧ P) ∨ (j = 1 ∧ Q) := by
  intro j
  rw [← ha, ← hb]
  rcases Nat.lt_or_ge j 32 with h | h
  · revert j
    cases a <;> cases b <;> decide +kernel
  · rw [b_big h]
    exact ⟨fun z => absurd z (by decide), fun z => by omega⟩
theorem xw_eval {post : SX → Prop} {n : Nat} {p : Nat → Nat} (hn : n < 12) (hns : ns = 32768) (hF : og_Dn (n + 1) (pv_m fl)) (hG : og_Dn (n + 1) (pv_m fr))
    (hp : ∀ i, i < 3 → pv_D (n + 1) ro (p i))
    (h : ∀ v, (∀ j, bt v j = true ↔ (j = 0 ∧ ∃ i, i < 3 ∧ pv_Wn fl fr su 1 p i) ∨ (j = 1 ∧ ∃ i, i < 3 ∧ pv_Wn fl fr su 0 p i)) → post (cap, cnt, dl, dr, tm, lf, rg, up, dn, ro, fl, fr, bi, upd su (pv_en p) v, tg, tt, ns)) :
    wpX_evaluate post (cap, cnt, dl, dr, tm, lf, rg, up, dn, ro, fl, fr, bi, su, tg, tt, ns) (nI (pv_en p)) := by
  have hp32 : ∀ i, i < 3 → p i < 32 := fun i hi => by have := pv_D_le (hp i hi); omega
  have hlt := pv_en_lt hp32
  subst hns
  have i1 := vp_in_nI hlt (show 32768 < 2 ^ 31 by omega)
  have e := nI_clamp (show pv_en p < 2 ^ 31 by omega)
  have T : ∀ {P : Prop}, P → (true = true ↔ P) := fun h => ⟨fun _ => h, fun _ => rfl⟩
  have F : ∀ {P : Prop}, ¬ P → (false = true ↔ P) := fun h => ⟨fun z => absurd z (by decide), fun z => absurd z h⟩
  unfold wpX_evaluate
  dsimp only
  refine xw_can (s := 1) hn (by omega) rfl hF hG hp (fun z1 => ?_) (fun z1 => nm_r (e' := 1) (by decide) ?_)
  · refine xw_can (s := 0) hn (by omega) rfl hF hG hp (fun z0 => ⟨i1, ?_⟩) (fun z0 => nm_r (e' := 2) (by decide) ⟨i1, ?_⟩)
    · rw [e, pv_nb.1]
      exact nm_e (h _ (bb_v3 false false (F z1) (F z0)))
    · rw [e, pv_nb.2.2.1]
      exact nm_e (h _ (bb_v3 false true (F z1) (T z0)))
  · refine xw_can (s := 0) hn (by omega) rfl hF hG hp (fun z0 => ⟨i1, ?_⟩) (fun z0 => nm_r (e' := 3) (by decide) ⟨i1, ?_⟩)
    · rw [e, pv_nb.2.1]
      exact nm_e (h _ (bb_v3 true false (T z1) (F z0)))
    · rw [e, pv_nb.2.2.2]
      exact nm_e (h _ (bb_v3 true true (T z1) (T z0)))
/-! the positions done so far -/
def pv_K (n : Nat) (ro fl fr su : Nat → Int32) (K : Nat) : Prop :=
  ∀ p, (∀ i, i < 3 → pv_D (n + 1) ro (p i)) → ((∀ i, i < 3 → p i ≤ 2 * n) ∨ pv_en p < K) → pv_Gd fl fr su p
theorem pv_en_fs {p : Nat → Nat} {i c : Nat} (hi : i < 3) (h : c < p i) : pv_en (og_fs p i c) < pv_en p := by
  unfold pv_en
  have h3 : i = 0 ∨ i = 1 ∨ i = 2 := by omega
  rcases h3 with rfl | rfl | rfl
  · rw [og_fs_s, og_fs_n (by decide), og_fs_n (by decide)]; omega
  · rw [og_fs_s, og_fs_n (by decide), og_fs_n (by decide)]; omega
  · rw [og_fs_s, og_fs_n (by decide), og_fs_n (by decide)]; omega
theorem pv_en_inj {p q : Nat → Nat} (hp : ∀ i, i < 3 → p i < 32) (hq : ∀ i, i < 3 → q i < 32) (h : pv_en p = pv_en q) : ∀ i, i < 3 → p i = q i := by
  have p0 := hp 0 (by decide)
  have p1 := hp 1 (by decide)
  have q0 := hq 0 (by decide)
  have q1 := hq 1 (by decide)
  unfold pv_en at h
  have e0 : p 0 = q 0 := by omega
  have e1 : p 1 = q 1 := by omega
  have e2 : p 2 = q 2 := by omega
  intro i hi
  have h3 : i = 0 ∨ i = 1 ∨ i = 2 := by omega
  rcases h3 with rfl | rfl | rfl
  · exact e0
  · exact e1
  · exact e2
theorem pv_en_cg {p q : Nat → Nat} (h : ∀ i, i < 3 → p i = q i) : pv_en p = pv_en q := by
  unfold pv_en
  rw [h 0 (by decide), h 1 (by decide), h 2 (by decide)]
theorem pv_Wn_cg {p q : Nat → Nat} {s i : Nat} (hi : i < 3) (h : ∀ i, i < 3 → p i = q i) : pv_Wn fl fr su s p i ↔ pv_Wn fl fr su s q i := by
  have e : ∀ c, pv_en (og_fs p i c) = pv_en (og_fs q i c) := by
    intro c
    apply pv_en_cg
    intro j hj
    by_cases z : j = i
    · subst z; rw [og_fs_s, og_fs_s]
    · rw [og_fs_n z, og_fs_n z, h j hj]
  unfold pv_Wn pv_W
  rw [h i hi]
  constructor
  · rintro ⟨c, h1, h2⟩; exact ⟨c, h1, by rw [← e c]; exact h2⟩
  · rintro ⟨c, h1, h2⟩; exact ⟨c, h1, by rw [e c]; exact h2⟩
theorem pv_fo_lt {N c c' s : Nat} (hF : og_Dn N (pv_m fl)) (hG : og_Dn N (pv_m fr)) (hc : c ≤ 2 * N) (h : pv_fo fl fr s c c') : c' < c := by
  obtain ⟨t, g, x, ht, rfl, rfl, w⟩ := h
  rcases w with ⟨_, w⟩ | ⟨_, w⟩
  · have := hF g x (by omega) w; omega
  · have := hG g x (by omega) w; omega
theorem pv_Gd_upd {N K : Nat} {v : Int32} {q : Nat → Nat} (hF : og_Dn N (pv_m fl)) (hG : og_Dn N (pv_m fr)) (hq : ∀ i, i < 3 → q i ≤ 2 * N) (h1 : pv_en q ≠ K) (h2 : ∀ i c, i < 3 → c < q i → pv_en (og_fs q i c) ≠ K)
    (h : pv_Gd fl fr su q) : pv_Gd fl fr (upd su K v) q := by
  have e : ∀ s i, i < 3 → (pv_Wn fl fr (upd su K v) s q i ↔ pv_Wn fl fr su s q i) := by
    intro s i hi
    unfold pv_Wn pv_W
    constructor
    · rintro ⟨c, q1, q2⟩
      rw [pk_un (h2 i c hi (pv_fo_lt hF hG (hq i hi) q1))] at q2
      exact ⟨c, q1, q2⟩
    · rintro ⟨c, q1, q2⟩
      refine ⟨c, q1, ?_⟩
      rw [pk_un (h2 i c hi (pv_fo_lt hF hG (hq i hi) q1))]
      exact q2
  unfold pv_Gd pv_W at *
  rw [pk_un h1]
  refine ⟨h.1, fun s hs => (h.2 s hs).trans ⟨?_, ?_⟩⟩
  · rintro ⟨i, hi, w⟩; exact ⟨i, hi, (e s i hi).mpr w⟩
  · rintro ⟨i, hi, w⟩; exact ⟨i, hi, (e s i hi).mp w⟩
theorem pv_K_step {n : Nat} {p : Nat → Nat} {v : Int32} (hn : n < 12) (hF : og_Dn (n + 1) (pv_m fl)) (hG : og_Dn (n + 1) (pv_m fr)) (hp : ∀ i, i < 3 → pv_D (n + 1) ro (p i)) (hnew : ∃ i, i < 3 ∧ 2 * n < p i)
    (hv : ∀ j, bt v j = true ↔ (j = 0 ∧ ∃ i, i < 3 ∧ pv_Wn fl fr su 1 p i) ∨ (j = 1 ∧ ∃ i, i < 3 ∧ pv_Wn fl fr su 0 p i))
    (h : pv_K n ro fl fr su (pv_en p)) : pv_K n ro fl fr (upd su (pv_en p) v) (pv_en p + 1) := by
  have lt : ∀ (q : Nat → Nat), (∀ i, i < 3 → pv_D (n + 1) ro (q i)) → ∀ i, i < 3 → q i ≤ 2 * (n + 1) := fun q hq i hi => pv_D_le (hq i hi)
  have lt32 : ∀ (q : Nat → Nat), (∀ i, i < 3 → q i ≤ 2 * (n + 1)) → ∀ i, i < 3 → q i < 32 := fun q hq i hi => by have := hq i hi; omega
  intro q hq hold
  have hq' := lt q hq
  by_cases e : pv_en q = pv_en p
  · have eq := pv_en_inj (lt32 q hq') (lt32 p (lt p hp)) e
    have ew : ∀ s i, i < 3 → (pv_Wn fl fr (upd su (pv_en p) v) s q i ↔ pv_Wn fl fr su s p i) := by
      intro s i hi
      rw [← pv_Wn_cg hi eq]
      unfold pv_Wn pv_W
      have k : ∀ c, pv_fo fl fr s (q i) c → pv_en (og_fs q i c) ≠ pv_en p := fun c hc => by
        have := pv_en_fs hi (pv_fo_lt hF hG (hq' i hi) hc)
        omega
      constructor
      · rintro ⟨c, q1, q2⟩
        rw [pk_un (k c q1)] at q2
        exact ⟨c, q1, q2⟩
      · rintro ⟨c, q1, q2⟩
        refine ⟨c, q1, ?_⟩
        rw [pk_un (k c q1)]
        exact q2
    refine ⟨fun j hj => ?_, fun s hs => ?_⟩
    · rw [e, pk_us, hv j]
      omega
    · have h2 : s = 0 ∨ s = 1 := by omega
      unfold pv_W
      rw [e, pk_us, hv]
      rcases h2 with rfl | rfl
      · constructor
        · rintro (⟨w, _⟩ | ⟨_, i, hi, w⟩)
          · exact absurd w (by decide)
          · exact ⟨i, hi, (ew 0 i hi).mpr w⟩
        · rintro ⟨i, hi, w⟩
          exact Or.inr ⟨rfl, i, hi, (ew 0 i hi).mp w⟩
      · constructor
        · rintro (⟨_, i, hi, w⟩ | ⟨w, _⟩)
          · exact ⟨i, hi, (ew 1 i hi).mpr w⟩
          · exact absurd w (by decide)
        · rintro ⟨i, hi, w⟩
          exact Or.inl ⟨rfl, i, hi, (ew 1 i hi).mp w⟩
  · have hold' : (∀ i, i < 3 → q i ≤ 2 * n) ∨ pv_en q < pv_en p := hold.imp id (fun z => by omega)
    refine pv_Gd_upd hF hG hq' e (fun i c hi hc w => ?_) (h q hq hold')
    rcases hold' with z | z
    · have c1 : ∀ j, j < 3 → og_fs q i c j ≤ 2 * n := og_fsD (D := fun _ c => c ≤ 2 * n) z (by have := z i hi; omega)
      have eq := pv_en_inj (fun j hj => by have := c1 j hj; omega) (lt32 p (lt p hp)) w
      obtain ⟨j, hj, hj2⟩ := hnew
      have := c1 j hj
      rw [eq j hj] at this
      omega
    · have := pv_en_fs hi hc
      omega
theorem pv_K_jump {n K K' : Nat} (h : pv_K n ro fl fr su K) (hj : ∀ p, (∀ i, i < 3 → pv_D (n + 1) ro (p i)) → K ≤ pv_en p → pv_en p < K' → ∀ i, i < 3 → p i ≤ 2 * n) : pv_K n ro fl fr su K' := by
  intro p hp hold
  refine h p hp ?_
  rcases Nat.lt_or_ge (pv_en p) K with z | z
  · exact Or.inr z
  · exact Or.inl (hold.elim id (fun w => hj p hp z w))
def pv_p3 (x y z : Nat) : Nat → Nat := fun i => if i = 0 then z else if i = 1 then y else x
theorem pv_p3_all {P : Nat → Prop} {x y z : Nat} (hx : P x) (hy : P y) (hz : P z) : ∀ i, i < 3 → P (pv_p3 x y z i) := by
  intro i hi
  have h3 : i = 0 ∨ i = 1 ∨ i = 2 := by omega
  rcases h3 with rfl | rfl | rfl
  · exact hz
  · exact hy
  · exact hx
/-- a live position with its number in a row has the row's codes -/
theorem pv_row {n x y : Nat} {p : Nat → Nat} (hn : n < 12) (hp : ∀ i, i < 3 → pv_D (n + 1) ro (p i)) (hx : x ≤ 2 * n + 2) (hy : y ≤ 2 * n + 2) (h1 : 1024 * x + 32 * y ≤ pv_en p) (h2 : pv_en p < 1024 * x + 32 * (y + 1)) :
    p 2 = x ∧ p 1 = y ∧ pv_en p = 1024 * x + 32 * y + p 0 := by
  have a0 := pv_D_le (hp 0 (by decide))
  have a1 := pv_D_le (hp 1 (by decide))
  have a2 := pv_D_le (hp 2 (by decide))
  unfold pv_en at *
  omega
theorem xw_row31 {post : SX → Prop} {n x y : Nat} (hn : n < 12) (hns : ns = 32768) (hF : og_Dn (n + 1) (pv_m fl)) (hG : og_Dn (n + 1) (pv_m fr)) (hr : ∀ g, g < n + 1 → pv_rt ro g ≤ g ∧ ro g = nI (pv_rt ro g))
    (hx : pv_D (n + 1) ro x) (hy : pv_D (n + 1) ro y) (h : ∀ su', pv_K n ro fl fr su' (1024 * x + 32 * (y + 1)) → post (cap, cnt, dl, dr, tm, lf, rg, up, dn, ro, fl, fr, bi, su', tg, tt, ns)) :
    ∀ d z su, z + d = 2 * n + 3 → (2 * n < z ∨ 2 * n < x ∨ 2 * n < y) → pv_K n ro fl fr su (1024 * x + 32 * y + z) → wX_extendRow_31 post (nI x) (nI y) (nI (2 * n + 1)) (d + 1) (nI z) cap cnt dl dr tm lf rg up dn ro fl fr bi su tg tt ns := by
  intro d
  have x2 := pv_D_le hx
  have y2 := pv_D_le hy
  induction d with
  | zero =>
    intro z su hz hw hK
    refine pk_lt (2 * n + 2) z (fun _ => h su (pv_K_jump hK fun p hp h1 h2 => ?_)) (fun w => absurd w (by omega)) (nI_1 (2 * n + 1)) rfl
    obtain ⟨_, _, e⟩ := pv_row hn hp (by omega) (by omega) (by omega) h2
    have := pv_D_le (hp 0 (by decide))
    omega
  | succ d ih =>
    intro z su hz hw hK
    refine pk_lt (2 * n + 2) z (fun w => absurd w (by omega)) (fun _ => xw_live hn (by omega) hr (fun hd => nm_r (nI_1 z) (ih (z + 1) su (by omega) (by omega) (pv_K_jump hK fun p hp h1 h2 => ?_))) (fun hd => ?_)) (nI_1 (2 * n + 1)) rfl
    · obtain ⟨_, _, e⟩ := pv_row (x := x) (y := y) hn hp (by omega) (by omega) (by omega) (by omega)
      have e0 : p 0 = z := by omega
      exact absurd (e0 ▸ hp 0 (by decide)) hd
    · have e3 : pv_en (pv_p3 x y z) = 1024 * x + 32 * y + z := by
        show z + 32 * y + 1024 * x = _
        omega
      have hp := pv_p3_all (P := pv_D (n + 1) ro) hx hy hd
      have hnew : ∃ i, i < 3 ∧ 2 * n < pv_p3 x y z i := by
        rcases hw with w | w | w
        · exact ⟨0, by omega, w⟩
        · exact ⟨2, by omega, w⟩
        · exact ⟨1, by omega, w⟩
      rw [bb_enc (by omega) (by omega) (by omega)]
      refine xw_eval (p := pv_p3 x y z) hn hns hF hG hp (fun v hv => nm_r (nI_1 z) (ih (z + 1) _ (by omega) (by omega) ?_))
      have K := pv_K_step hn hF hG hp hnew hv (e3 ▸ hK)
      rw [e3] at K
      rw [e3]
      exact K
theorem xw_row {post : SX → Prop} {n x y : Nat} (hn : n < 12) (hns : ns = 32768) (hF : og_Dn (n + 1) (pv_m fl)) (hG : og_Dn (n + 1) (pv_m fr)) (hr : ∀ g, g < n + 1 → pv_rt ro g ≤ g ∧ ro g = nI (pv_rt ro g))
    (hx : pv_D (n + 1) ro x) (hy : pv_D (n + 1) ro y) (hK : pv_K n ro fl fr su (1024 * x + 32 * y)) (h : ∀ su', pv_K n ro fl fr su' (1024 * x + 32 * (y + 1)) → post (cap, cnt, dl, dr, tm, lf, rg, up, dn, ro, fl, fr, bi, su', tg, tt, ns)) :
    wpX_extendRow post (cap, cnt, dl, dr, tm, lf, rg, up, dn, ro, fl, fr, bi, su, tg, tt, ns) (nI x) (nI y) (nI n) := by
  have x2 := pv_D_le hx
  have y2 := pv_D_le hy
  refine nm_r (e' := nI (2 * n + 1)) (by rw [show (2 : Int32) * nI n = nI (2 * n) from pk_mul 2 n, nI_1]) ?_
  refine pk_le (2 * n + 1) x (fun w => ⟨2 * n + 3 + 1, xw_row31 hn hns hF hG hr hx hy h (2 * n + 3) 0 su (by omega) (by omega) hK⟩) (fun w => pk_lt y (2 * n + 1) (fun v => ⟨2 + 1, ?_⟩) (fun v => ⟨2 * n + 3 + 1, xw_row31 hn hns hF hG hr hx hy h (2 * n + 3) 0 su (by omega) (by omega) hK⟩))
  refine xw_row31 hn hns hF hG hr hx hy h 2 (2 * n + 1) su (by omega) (by omega) (pv_K_jump hK fun p hp h1 h2 => ?_)
  obtain ⟨e2, e1, e⟩ := pv_row hn hp (by omega) (by omega) h1 (by omega)
  intro i hi
  have h3 : i = 0 ∨ i = 1 ∨ i = 2 := by omega
  rcases h3 with rfl | rfl | rfl <;> omega
theorem xw_es16 {post : SX → Prop} {J : Int32 → Int32 → Int32 → Int32 → Int32 → Int32 → (Nat → Int32) → (Nat → Int32) → (Nat → Int32) → (Nat → Int32) → (Nat → Int32) → (Nat → Int32) → (Nat → Int32) → (Nat → Int32) → (Nat → Int32) → (Nat → Int32) → (Nat → Int32) → Nat → Prop} {n x : Nat}
    (hn : n < 12) (hns : ns = 32768) (hF : og_Dn (n + 1) (pv_m fl)) (hG : og_Dn (n + 1) (pv_m fr)) (hr : ∀ g, g < n + 1 → pv_rt ro g ≤ g ∧ ro g = nI (pv_rt ro g))
    (hx : x ≤ 2 * n + 2) (h : ∀ su', pv_K n ro fl fr su' (1024 * (x + 1)) → J (nI (x + 1)) cap cnt dl dr tm lf rg up dn ro fl fr bi su' tg tt ns) :
    ∀ d y su, y + d = 2 * n + 3 → pv_K n ro fl fr su (1024 * x + 32 * y) → wX_extendSums_16 post J (nI n) (nI (2 * n + 2)) (nI x) (d + 1) (nI y) cap cnt dl dr tm lf rg up dn ro fl fr bi su tg tt ns := by
  intro d
  induction d with
  | zero =>
    intro y su hy hK
    refine pk_lt (2 * n + 2) y (fun _ => nm_r (nI_1 x) (h su (pv_K_jump hK fun p hp h1 h2 => ?_))) (fun w => absurd w (by omega))
    have a0 := pv_D_le (hp 0 (by decide))
    have a1 := pv_D_le (hp 1 (by decide))
    have a2 := pv_D_le (hp 2 (by decide))
    unfold pv_en at *
    omega
  | succ d ih =>
    intro y su hy hK
    have dead : (¬ pv_D (n + 1) ro x ∨ ¬ pv_D (n + 1) ro y) → pv_K n ro fl fr su (1024 * x + 32 * (y + 1)) := by
      intro hd
      refine pv_K_jump hK fun p hp h1 h2 => ?_
      obtain ⟨e2, e1, e⟩ := pv_row hn hp hx (by omega) h1 h2
      rcases hd with w | w
      · exact absurd (e2 ▸ hp 2 (by decide)) w
      · exact absurd (e1 ▸ hp 1 (by decide)) w
    refine pk_lt (2 * n + 2) y (fun w => absurd w (by omega)) (fun _ => xw_live hn hx hr (fun hd => nm_r (nI_1 y) (ih (y + 1) su (by omega) (dead (Or.inl hd)))) (fun hdx => xw_live hn (by omega) hr (fun hd => nm_r (nI_1 y) (ih (y + 1) su (by omega) (dead (Or.inr hd)))) (fun hdy => ?_)))
    exact xw_row hn hns hF hG hr hdx hdy hK (fun su' hK' => nm_r (nI_1 y) (ih (y + 1) su' (by omega) hK'))
theorem xw_es8 {post : SX → Prop} {n : Nat} (hn : n < 12) (hns : ns = 32768) (hF : og_Dn (n + 1) (pv_m fl)) (hG : og_Dn (n + 1) (pv_m fr)) (hr : ∀ g, g < n + 1 → pv_rt ro g ≤ g ∧ ro g = nI (pv_rt ro g))
    (h : ∀ su', (∀ p, (∀ i, i < 3 → pv_D (n + 1) ro (p i)) → pv_Gd fl fr su' p) → post (cap, cnt, dl, dr, tm, lf, rg, up, dn, ro, fl, fr, bi, su', tg, tt, ns)) :
    ∀ d x su, x + d = 2 * n + 3 → pv_K n ro fl fr su (1024 * x) → wX_extendSums_8 post (nI n) (nI (2 * n + 2)) (d + 1) (nI x) cap cnt dl dr tm lf rg up dn ro fl fr bi su tg tt ns := by
  intro d
  induction d with
  | zero =>
    intro x su hx hK
    refine pk_lt (2 * n + 2) x (fun _ => h su (fun p hp => hK p hp (Or.inr ?_))) (fun w => absurd w (by omega))
    have a0 := pv_D_le (hp 0 (by decide))
    have a1 := pv_D_le (hp 1 (by decide))
    have a2 := pv_D_le (hp 2 (by decide))
    unfold pv_en
    omega
  | succ d ih =>
    intro x su hx hK
    refine pk_lt (2 * n + 2) x (fun w => absurd w (by omega)) (fun _ => ⟨2 * n + 3 + 1, xw_es16 hn hns hF hG hr (by omega) (fun su' hK' => ih (x + 1) su' (by omega) hK') (2 * n + 3) 0 su (by omega) hK⟩)
theorem xw_es {post : SX → Prop} {n : Nat} (hn : n < 12) (hns : ns = 32768) (hF : og_Dn (n + 1) (pv_m fl)) (hG : og_Dn (n + 1) (pv_m fr)) (hr : ∀ g, g < n + 1 → pv_rt ro g ≤ g ∧ ro g = nI (pv_rt ro g))
    (h : ∀ su', (∀ p, (∀ i, i < 3 → pv_D (n + 1) ro (p i)) → pv_Gd fl fr su' p) → post (cap, cnt, dl, dr, tm, lf, rg, up, dn, ro, fl, fr, bi, su', tg, tt, ns)) (hK : ∀ p, (∀ i, i < 3 → pv_D n ro (p i)) → pv_Gd fl fr su p) :
    wpX_extendSums post (cap, cnt, dl, dr, tm, lf, rg, up, dn, ro, fl, fr, bi, su, tg, tt, ns) (nI n) := by
  refine nm_r (e' := nI (2 * n + 2)) (by rw [show (2 : Int32) * nI n = nI (2 * n) from pk_mul 2 n]; exact nI_add _ 2) ⟨2 * n + 3 + 1, xw_es8 hn hns hF hG hr h (2 * n + 3) 0 su (by omega) ?_⟩
  intro p hp hold
  refine hK p fun i hi => ?_
  rcases hold with w | w
  · rcases hp i hi with z | ⟨t, g, ht, hg, hrt, z⟩
    · exact Or.inl z
    · have := w i hi
      exact Or.inr ⟨t, g, ht, by omega, hrt, z⟩
  · omega
end XM
end
section
/-! the relation -/
section RL
variable {cap cnt dl dr tm : Int32} {lf rg up dn ro fl fr bi su tg tt : Nat → Int32} {ns : Nat}
variable {op df fi wi fo bs : Nat → Int32}
def pv_G (N : Nat) (lf rg up dn ro fl fr bi : Nat → Int32) : Prop :=
  og_Dn 12 (pv_m lf) ∧ og_Dn 12 (pv_m rg) ∧
  (∀ a b, a < N → ((pv_m up a b → b < N) ∧ (pv_m dn a b → b < N))) ∧
  (∀ a b, a < N → b < N → (pv_m dn a b ↔ pv_m up b a)) ∧
  og_Ord N (pv_m lf) (pv_m rg) (pv_m up) ∧
  (∀ a, a < N → ro a = nI (pv_rt ro a)) ∧ og_Rt N (pv_m up) (pv_rt ro) ∧
  og_F N (pv_m up) (pv_rt ro) (pv_m fl) (pv_m fr) ∧
  (∀ a, a < N → fl a = fl (pv_rt ro a) ∧ fr a = fr (pv_rt ro a) ∧ bi a = bi (pv_rt ro a)) ∧
  (∀ a, a < N → pv_rt ro a = a → bi a = pv_bf (fl a ||| fr a) bi 12)
def pv_Zs (N : Nat) (ro fl fr su : Nat → Int32) : Prop := ∀ p, (∀ i, i < 3 → pv_D N ro (p i)) → pv_Gd fl fr su p
def pv_R (C N T : Nat) (dl dr : Int32) (lf rg up dn ro fl fr bi su tg tt : Nat → Int32) (ns : Nat) (op df : Nat → Int32) : Prop :=
  (8 ≤ C ∧ C ≤ 12 ∧ N ≤ C ∧ T ≤ 3 ∧ ns = 32768) ∧ pv_G N lf rg up dn ro fl fr bi ∧ pv_Zs N ro fl fr su ∧
  ((∀ x, bt dl x = true → x < N) ∧ (∀ x, bt dr x = true → x < N)) ∧ (∀ i, i < T → ∃ g, g < N ∧ tg i = nI g) ∧ (∀ i, ∃ t, t < 2 ∧ tt i = nI t) ∧
  (∀ g, g < 12 → op g = lf g ∧ op (12 + g) = rg g) ∧ df 0 = dl ∧ df 1 = dr
/-- the relation at the head of a turn -/
def i_Rel (k : Nat) (u : SX) (v : SY) : Prop := ∃ C N T, match u, v with
  | (cap, cnt, dl, dr, tm, lf, rg, up, dn, ro, fl, fr, bi, su, tg, tt, ns), (yc, yn, yt, op, df, ga, tu, fi, wi, fo, bs) => cap = nI C ∧ cnt = nI N ∧ tm = nI T ∧ yc = nI C ∧ yn = nI N ∧ yt = nI T ∧ ga = tg ∧ tu = tt ∧ pv_R C N T dl dr lf rg up dn ro fl fr bi su tg tt ns op df
theorem i_up {k : Nat} {u : SX} {v : SY} (h : i_Rel k u v) : i_Rel (k + 4) u v := h
theorem pv_in {C N T k : Nat} (h : pv_R C N T dl dr lf rg up dn ro fl fr bi su tg tt ns op df) : i_Rel k (nI C, nI N, dl, dr, nI T, lf, rg, up, dn, ro, fl, fr, bi, su, tg, tt, ns) (nI C, nI N, nI T, op, df, tg, tt, fi, wi, fo, bs) := ⟨C, N, T, rfl, rfl, rfl, rfl, rfl, rfl, rfl, rfl, h⟩
theorem pv_el {P : SX → SY → Prop} (h : ∀ C N T dl dr lf rg up dn ro fl fr bi su tg tt ns op df fi wi fo bs, pv_R C N T dl dr lf rg up dn ro fl fr bi su tg tt ns op df → P (nI C, nI N, dl, dr, nI T, lf, rg, up, dn, ro, fl, fr, bi, su, tg, tt, ns) (nI C, nI N, nI T, op, df, tg, tt, fi, wi, fo, bs)) {k : Nat} {u : SX} {v : SY} (I : i_Rel k u v) : P u v := by
  obtain ⟨cap, cnt, dl, dr, tm, lf, rg, up, dn, ro, fl, fr, bi, su, tg, tt, ns⟩ := u
  obtain ⟨yc, yn, yt, op, df, ga, tu, fi, wi, fo, bs⟩ := v
  obtain ⟨C, N, T, rfl, rfl, rfl, rfl, rfl, rfl, rfl, rfl, hr⟩ := I
  exact h C N T dl dr lf rg up dn ro fl fr bi su _ _ ns op df fi wi fo bs hr
/-! the constructors -/
theorem pv_z0 : pv_R 8 0 0 0 0 (fun _ => 0) (fun _ => 0) (fun _ => 0) (fun _ => 0) (fun _ => 0) (fun _ => 0) (fun _ => 0) (fun _ => 0) (fun _ => 0) (fun _ => 0) (fun _ => 0) 32768 (fun _ => 0) (fun _ => 0) := by
  refine ⟨⟨by omega, by omega, by omega, by omega, rfl⟩, ⟨fun a x _ h => absurd h (bb_0F x), fun a x _ h => absurd h (bb_0F x), fun a b h => absurd h (by omega), fun a b h => absurd h (by omega), fun a b h => absurd h (by omega), fun a h => absurd h (by omega), fun a h => absurd h (by omega), fun a h => absurd h (by omega), fun a h => absurd h (by omega), fun a h => absurd h (by omega)⟩, fun p hp => ?_, ⟨fun x h => absurd h (bb_0F x), fun x h => absurd h (bb_0F x)⟩, fun i h => absurd h (by omega), fun i => ⟨0, by omega, rfl⟩, fun g _ => ⟨rfl, rfl⟩, rfl, rfl⟩
  refine ⟨fun j _ => bb_0F j, fun s _ => ⟨fun h => absurd h (bb_0F _), ?_⟩⟩
  rintro ⟨i, hi, c, ⟨t, g, x, ht, e, _⟩, _⟩
  rcases hp i hi with z | ⟨t', g', _, z, _⟩ <;> omega
theorem pv_zC {C : Nat} (h8 : 8 ≤ C) (h12 : C ≤ 12) : pv_R C 0 0 0 0 (fun _ => 0) (fun _ => 0) (fun _ => 0) (fun _ => 0) (fun _ => 0) (fun _ => 0) (fun _ => 0) (fun _ => 0) (fun _ => 0) (fun _ => 0) (fun _ => 0) 32768 (fun _ => 0) (fun _ => 0) :=
  ⟨⟨h8, h12, by omega, by omega, rfl⟩, pv_z0.2⟩
theorem i_vc0 (k0 : Int32) : wpX_init (fun u => wpY_init (fun v => i_Rel 1 u v) k0) k0 := by
  refine ⟨by decide, nm_r (e' := 32768) (by decide) ⟨Nat.le_refl _, ?_⟩⟩
  refine br_c (fun h8 => ?_) (fun h8 => ?_)
  · refine br_c (fun h12 => ?_) (fun h12 => ?_)
    · obtain ⟨C, hC, rfl⟩ := nI_of2 (x := k0) (M := 12) (n := 12) (by decide) (fun z => absurd (Int32.lt_of_le_of_lt h8 z) (by decide)) h12
      have h8' : 8 ≤ C := (nI_leI (a := 8) (b := C) (by omega) (by omega)).mp h8
      exact br_t h8 (br_t h12 (pv_in (pv_zC h8' hC)))
    · exact br_t h8 (br_f h12 (pv_in (C := 12) (pv_zC (by omega) (by omega))))
  · exact br_t (by decide) (br_f h8 (pv_in (C := 8) pv_z0))
/-! congruences -/
theorem og_Ord_cg {n : Nat} {L L' R R' le le' : Nat → Nat → Prop} (dL : og_Dn n L) (dR : og_Dn n R) (hL : ∀ a x, a < n → (L a x ↔ L' a x)) (hR : ∀ a x, a < n → (R a x ↔ R' a x)) (hle : ∀ a b, a < n → b < n → (le a b ↔ le' a b))
    (h : og_Ord n L R le) : og_Ord n L' R' le' := by
  intro a b ha hb
  rw [← hle a b ha hb, h a b ha hb]
  constructor
  · rintro ⟨h1, h2⟩
    refine ⟨fun x hx z => ?_, fun y hy z => ?_⟩
    · have hx := (hL a x ha).mpr hx
      have := dL a x ha hx
      exact h1 x hx ((hle b x hb (by omega)).mpr z)
    · have hy := (hR b y hb).mpr hy
      have := dR b y hb hy
      exact h2 y hy ((hle y a (by omega) ha).mpr z)
  · rintro ⟨h1, h2⟩
    refine ⟨fun x hx z => ?_, fun y hy z => ?_⟩
    · have := dL a x ha hx
      exact h1 x ((hL a x ha).mp hx) ((hle b x hb (by omega)).mp z)
    · have := dR b y hb hy
      exact h2 y ((hR b y hb).mp hy) ((hle y a (by omega) ha).mp z)
theorem og_Rt_cg {n : Nat} {le le' : Nat → Nat → Prop} {rt rt' : Nat → Nat} (hle : ∀ a b, a < n → b < n → (le a b ↔ le' a b)) (hr : ∀ a, a < n → rt a = rt' a) (h : og_Rt n le rt) : og_Rt n le' rt' := by
  intro a ha
  obtain ⟨h1, h2, h3, h4⟩ := h a ha
  rw [← hr a ha]
  refine ⟨h1, (hle a _ ha (by omega)).mp h2, (hle _ a (by omega) ha).mp h3, fun x hx z => h4 x hx ⟨(hle x a (by omega) ha).mpr z.1, (hle a x ha (by omega)).mpr z.2⟩⟩
theorem og_C_cg {g x : Nat} {le le' F F' : Nat → Nat → Prop} {rt rt' : Nat → Nat} (hle : ∀ a b, a < g + 1 → b < g + 1 → (le a b ↔ le' a b)) (hr : ∀ a, a < g → rt a = rt' a) (dF : og_Dn g F) (hF : ∀ a y, a < g → (F a y ↔ F' a y)) :
    og_C le rt F g x ↔ og_C le' rt' F' g x := by
  constructor
  · rintro ⟨h1, h2, h3, h4⟩
    refine ⟨h1, (hr x h1) ▸ h2, fun z => h3 ((hle g x (by omega) (by omega)).mpr z), fun y hy z => ?_⟩
    have hy := (hF x y h1).mpr hy
    have := dF x y h1 hy
    exact h4 y hy ((hle y g (by omega) (by omega)).mpr z)
  · rintro ⟨h1, h2, h3, h4⟩
    refine ⟨h1, (hr x h1).trans h2, fun z => h3 ((hle g x (by omega) (by omega)).mp z), fun y hy z => ?_⟩
    have := dF x y h1 hy
    exact h4 y ((hF x y h1).mp hy) ((hle y g (by omega) (by omega)).mp z)
theorem og_M_cg {g x : Nat} {le le' F F' : Nat → Nat → Prop} {rt rt' : Nat → Nat} (hle : ∀ a b, a < g + 1 → b < g + 1 → (le a b ↔ le' a b)) (hr : ∀ a, a < g → rt a = rt' a) (dF : og_Dn g F) (hF : ∀ a y, a < g → (F a y ↔ F' a y)) :
    og_M le (og_C le rt F g) x ↔ og_M le' (og_C le' rt' F' g) x := by
  constructor
  · rintro ⟨h1, h2⟩
    refine ⟨(og_C_cg hle hr dF hF).mp h1, fun z hz l => ?_⟩
    have hx := h1.1
    have hzg := hz.1
    exact h2 z ((og_C_cg hle hr dF hF).mpr hz) ((hle x z (by omega) (by omega)).mpr l)
  · rintro ⟨h1, h2⟩
    refine ⟨(og_C_cg hle hr dF hF).mpr h1, fun z hz l => ?_⟩
    have hx := h1.1
    have hzg := hz.1
    exact h2 z ((og_C_cg hle hr dF hF).mp hz) ((hle x z (by omega) (by omega)).mp l)
theorem og_F_cg {n : Nat} {le le' FL FL' FR FR' : Nat → Nat → Prop} {rt rt' : Nat → Nat} (hle : ∀ a b, a < n → b < n → (le a b ↔ le' a b)) (hr : ∀ a, a < n → rt a = rt' a) (dL : og_Dn n FL) (dR : og_Dn n FR)
    (hL : ∀ a y, a < n → (FL a y ↔ FL' a y)) (hR : ∀ a y, a < n → (FR a y ↔ FR' a y)) (h : og_F n le rt FL FR) : og_F n le' rt' FL' FR' := by
  intro g hg hrg x
  rw [← hr g hg] at hrg
  obtain ⟨h1, h2⟩ := h g hg hrg x
  rw [← hL g x hg, ← hR g x hg, h1, h2]
  exact ⟨og_M_cg (fun a b ha hb => hle a b (by omega) (by omega)) (fun a ha => hr a (by omega)) (fun a y ha => dR a y (by omega)) (fun a y ha => hR a y (by omega)),
    og_M_cg (fun a b ha hb => hle b a (by omega) (by omega)) (fun a ha => hr a (by omega)) (fun a y ha => dL a y (by omega)) (fun a y ha => hL a y (by omega))⟩
theorem pv_bf_cg {m : Int32} {b b' : Nat → Int32} (h : ∀ k, bt m k = true → b k = b' k) : ∀ j, pv_bf m b j = pv_bf m b' j := by
  intro j
  induction j with
  | zero => rfl
  | succ j ih =>
    rw [pv_bf_s, pv_bf_s, ih]
    by_cases e : bt m j = true
    · rw [if_pos e, if_pos e, h j e]
    · rw [if_neg e, if_neg e]
theorem pv_Gd_cg {n : Nat} {fl' fr' : Nat → Int32} {p : Nat → Nat} (hl : ∀ g, g < n → fl g = fl' g) (hr : ∀ g, g < n → fr g = fr' g) (hp : ∀ i, i < 3 → p i ≤ 2 * n) (h : pv_Gd fl fr su p) : pv_Gd fl' fr' su p := by
  have e : ∀ s i c, i < 3 → (pv_fo fl fr s (p i) c ↔ pv_fo fl' fr' s (p i) c) := by
    intro s i c hi
    have hpi := hp i hi
    constructor
    · rintro ⟨t, g, x, ht, e1, e2, w⟩
      refine ⟨t, g, x, ht, e1, e2, ?_⟩
      unfold og_LRO pv_m at *
      rw [← hl g (by omega), ← hr g (by omega)]
      exact w
    · rintro ⟨t, g, x, ht, e1, e2, w⟩
      refine ⟨t, g, x, ht, e1, e2, ?_⟩
      unfold og_LRO pv_m at *
      rw [hl g (by omega), hr g (by omega)]
      exact w
  refine ⟨h.1, fun s hs => (h.2 s hs).trans ⟨?_, ?_⟩⟩
  · rintro ⟨i, hi, c, h1, h2⟩; exact ⟨i, hi, c, (e s i c hi).mp h1, h2⟩
  · rintro ⟨i, hi, c, h1, h2⟩; exact ⟨i, hi, c, (e s i c hi).mpr h1, h2⟩
/-! what the games' part gives -/
theorem pv_G_sys {N : Nat} (hN : N ≤ 12) (h : pv_G N lf rg up dn ro fl fr bi) : og_S N (pv_m lf) (pv_m rg) (pv_m up) (pv_rt ro) :=
  og_sys h.2.2.2.2.1 (fun a x ha => h.1 a x (by omega)) (fun a x ha => h.2.1 a x (by omega)) h.2.2.2.2.2.2.1
theorem pv_G_dn {N : Nat} (hN : N ≤ 12) (h : pv_G N lf rg up dn ro fl fr bi) : og_Dn N (pv_m fl) ∧ og_Dn N (pv_m fr) := by
  have hS := pv_G_sys hN h
  obtain ⟨_, _, _, _, _, _, hR, hF, hc, _⟩ := h
  refine ⟨fun a x ha hx => ?_, fun a x ha hx => ?_⟩
  · have r1 := (hR a ha).1
    unfold pv_m at hx
    rw [(hc a ha).1] at hx
    have := (og_F_L hF (show pv_rt ro a < N by omega) (og_rt_rt hS.1 hR ha) hx).1
    omega
  · have r1 := (hR a ha).1
    unfold pv_m at hx
    rw [(hc a ha).2.1] at hx
    have := (og_F_R hF (show pv_rt ro a < N by omega) (og_rt_rt hS.1 hR ha) hx).1
    omega
theorem pv_G_ro {N : Nat} (h : pv_G N lf rg up dn ro fl fr bi) : ∀ g, g < N → pv_rt ro g ≤ g ∧ ro g = nI (pv_rt ro g) := fun g hg => ⟨(h.2.2.2.2.2.2.1 g hg).1, h.2.2.2.2.2.1 g hg⟩
end RL
end
section
/-! X: build -/
section BU
variable {cap cnt dl dr tm : Int32} {lf rg up dn ro fl fr bi su tg tt : Nat → Int32} {ns : Nat}
variable {op df fi wi fo bs : Nat → Int32} {C N T : Nat}
theorem pv_rt_s {y : Nat} (hy : y < 12) : pv_rt (upd ro N (nI y)) N = y := by
  unfold pv_rt
  rw [pk_us, nI_clamp (by omega)]
theorem pv_rt_n {a : Nat} {v : Int32} (h : a ≠ N) : pv_rt (upd ro N v) a = pv_rt ro a := by
  unfold pv_rt
  rw [pk_un h]
theorem pv_dn_upd {f : Nat → Int32} {d : Int32} (hf : og_Dn 12 (pv_m f)) (hd : ∀ x, bt d x = true → x < N) : og_Dn 12 (pv_m (upd f N d)) := by
  intro a x ha hx
  unfold pv_m at hx
  by_cases e : a = N
  · subst e; rw [pk_us] at hx; exact hd x hx
  · rw [pk_un e] at hx; exact hf a x ha hx
theorem pv_m_upd {f : Nat → Int32} {d : Int32} {a x : Nat} (h : a < N) : pv_m f a x ↔ pv_m (upd f N d) a x := by
  unfold pv_m
  rw [pk_un (by omega)]
/-- the new game is compared, its root is found -/
def pv_Pre (N y : Nat) (lf rg up dn ro fl fr : Nat → Int32) : Prop :=
  og_S (N + 1) (pv_m lf) (pv_m rg) (pv_m up) (pv_rt ro) ∧ og_F N (pv_m up) (pv_rt ro) (pv_m fl) (pv_m fr) ∧ (∀ a, a < N + 1 → ro a = nI (pv_rt ro a)) ∧
  (∀ a b, a < N + 1 → ((pv_m up a b → b < N + 1) ∧ (pv_m dn a b → b < N + 1))) ∧ (∀ a b, a < N + 1 → b < N + 1 → (pv_m dn a b ↔ pv_m up b a)) ∧
  og_Ord (N + 1) (pv_m lf) (pv_m rg) (pv_m up) ∧ pv_rt ro N = y ∧ y ≤ N
theorem pv_pre {up' dn' lf' rg' : Nat → Int32} {y : Nat} (hN : N < 12) (hG : pv_G N lf rg up dn ro fl fr bi) (hl' : og_Dn 12 (pv_m lf')) (hr' : og_Dn 12 (pv_m rg')) (hE : pv_LE N lf' rg' up up' dn')
    (hy1 : bt (up' N &&& dn' N) y = true) (hy2 : ∀ j, j < y → bt (up' N &&& dn' N) j = false) : pv_Pre N y lf' rg' up' dn' (upd ro N (nI y)) fl fr := by
  obtain ⟨dF, dG⟩ := pv_G_dn (by omega) hG
  obtain ⟨_, _, _, _, _, hro, hR, hF, hc, _⟩ := hG
  obtain ⟨e1, e2, e3, e4⟩ := hE
  have hPre := og_pre e3 (fun a x ha => hl' a x (by omega)) (fun a x ha => hr' a x (by omega))
  have nn : pv_m up' N N := hPre.1 N (by omega)
  have yN : y ≤ N := by
    rcases Nat.lt_or_ge N y with z | z
    · have w := hy2 N z
      have v : bt (up' N &&& dn' N) N = true := (bb_andT N).mpr ⟨nn, (e2 N N (by omega) (by omega)).mpr nn⟩
      rw [v] at w
      exact absurd w (by decide)
    · exact z
  have hrt : ∀ a, a < N → pv_rt ro a = pv_rt (upd ro N (nI y)) a := fun a ha => (pv_rt_n (by omega)).symm
  have hrN : pv_rt (upd ro N (nI y)) N = y := pv_rt_s (by omega)
  have hle : ∀ a b, a < N → b < N → (pv_m up a b ↔ pv_m up' a b) := fun a b ha hb => (e4 a b ha hb).symm
  have hR' : og_Rt (N + 1) (pv_m up') (pv_rt (upd ro N (nI y))) := by
    intro a ha
    by_cases e : a = N
    · subst e
      rw [hrN]
      obtain ⟨q1, q2⟩ := (bb_andT y).mp hy1
      refine ⟨yN, q1, (e2 a y (by omega) (by omega)).mp q2, fun x hx w => ?_⟩
      have v : bt (up' a &&& dn' a) x = true := (bb_andT x).mpr ⟨w.2, (e2 a x (by omega) (by omega)).mpr w.1⟩
      rw [hy2 x hx] at v
      exact absurd v (by decide)
    · exact og_Rt_cg hle hrt hR a (by omega)
  refine ⟨og_sys e3 (fun a x ha => hl' a x (by omega)) (fun a x ha => hr' a x (by omega)) hR', og_F_cg hle hrt dF dG (fun _ _ _ => Iff.rfl) (fun _ _ _ => Iff.rfl) hF, fun a ha => ?_, e1, e2, e3, hrN, yN⟩
  by_cases e : a = N
  · subst e
    rw [hrN, pk_us]
  · rw [← hrt a (by omega), pk_un e]
    exact hro a (by omega)
theorem pv_G_root {A B : Int32} {lf' rg' up' dn' ro' : Nat → Int32} (hN : N < 12) (hl' : og_Dn 12 (pv_m lf')) (hr' : og_Dn 12 (pv_m rg')) (hP : pv_Pre N N lf' rg' up' dn' ro' fl fr)
    (dF : og_Dn N (pv_m fl)) (dG : og_Dn N (pv_m fr)) (hc : ∀ a, a < N → fl a = fl (pv_rt ro' a) ∧ fr a = fr (pv_rt ro' a) ∧ bi a = bi (pv_rt ro' a)) (hb : ∀ a, a < N → pv_rt ro' a = a → bi a = pv_bf (fl a ||| fr a) bi 12)
    (hA : ∀ x, bt A x = true ↔ og_M (pv_m up') (og_C (pv_m up') (pv_rt ro') (pv_m fr) N) x) (hB : ∀ x, bt B x = true ↔ og_M (fun a b => pv_m up' b a) (og_C (fun a b => pv_m up' b a) (pv_rt ro') (pv_m fl) N) x) :
    pv_G (N + 1) lf' rg' up' dn' ro' (upd fl N A) (upd fr N B) (upd bi N (pv_bf (A ||| B) bi 12)) := by
  obtain ⟨hS, hF, hro, e1, e2, e3, hrN, _⟩ := hP
  have hR := hS.2.2.2
  refine ⟨hl', hr', e1, e2, e3, hro, hR, fun g hg hrg x => ?_, fun a ha => ?_, fun a ha hra => ?_⟩
  · by_cases e : g = N
    · subst e
      have k1 : pv_m (upd fl g A) g x ↔ bt A x = true := by unfold pv_m; rw [pk_us]
      have k2 : pv_m (upd fr g B) g x ↔ bt B x = true := by unfold pv_m; rw [pk_us]
      rw [k1, k2, hA, hB]
      exact ⟨og_M_cg (fun _ _ _ _ => Iff.rfl) (fun _ _ => rfl) dG (fun a y ha => pv_m_upd ha), og_M_cg (fun _ _ _ _ => Iff.rfl) (fun _ _ => rfl) dF (fun a y ha => pv_m_upd ha)⟩
    · exact og_F_cg (fun _ _ _ _ => Iff.rfl) (fun _ _ => rfl) dF dG (fun a y ha => pv_m_upd ha) (fun a y ha => pv_m_upd ha) hF g (by omega) hrg x
  · by_cases e : a = N
    · subst e
      rw [hrN]
      exact ⟨rfl, rfl, rfl⟩
    · have := (hR a ha).1
      rw [pk_un e, pk_un e, pk_un e, pk_un (by omega), pk_un (by omega), pk_un (by omega)]
      exact hc a (by omega)
  · have cg : ∀ m, (∀ k, bt m k = true → k < N) → pv_bf m bi 12 = pv_bf m (upd bi N (pv_bf (A ||| B) bi 12)) 12 := fun m hm => pv_bf_cg (fun k hk => (pk_un (by have := hm k hk; omega)).symm) 12
    by_cases e : a = N
    · subst e
      rw [pk_us, pk_us, pk_us]
      refine cg _ (fun k hk => ?_)
      rcases (bb_orT k).mp hk with w | w
      · exact ((hA k).mp w).1.1
      · exact ((hB k).mp w).1.1
    · rw [pk_un e, pk_un e, pk_un e, hb a (by omega) hra]
      refine cg _ (fun k hk => ?_)
      rcases (bb_orT k).mp hk with w | w
      · have := dF a k (by omega) w; omega
      · have := dG a k (by omega) w; omega
theorem pv_G_copy {y : Nat} {lf' rg' up' dn' ro' : Nat → Int32} (hN : N < 12) (hl' : og_Dn 12 (pv_m lf')) (hr' : og_Dn 12 (pv_m rg')) (hP : pv_Pre N y lf' rg' up' dn' ro' fl fr) (hy : y ≠ N)
    (dF : og_Dn N (pv_m fl)) (dG : og_Dn N (pv_m fr)) (hc : ∀ a, a < N → fl a = fl (pv_rt ro' a) ∧ fr a = fr (pv_rt ro' a) ∧ bi a = bi (pv_rt ro' a)) (hb : ∀ a, a < N → pv_rt ro' a = a → bi a = pv_bf (fl a ||| fr a) bi 12) :
    pv_G (N + 1) lf' rg' up' dn' ro' (upd fl N (fl y)) (upd fr N (fr y)) (upd bi N (bi y)) := by
  obtain ⟨hS, hF, hro, e1, e2, e3, hrN, hyN⟩ := hP
  have hR := hS.2.2.2
  refine ⟨hl', hr', e1, e2, e3, hro, hR, fun g hg hrg x => ?_, fun a ha => ?_, fun a ha hra => ?_⟩
  · have e : g ≠ N := fun e => by subst e; omega
    exact og_F_cg (fun _ _ _ _ => Iff.rfl) (fun _ _ => rfl) dF dG (fun a y ha => pv_m_upd ha) (fun a y ha => pv_m_upd ha) hF g (by omega) hrg x
  · by_cases e : a = N
    · subst e
      rw [hrN, pk_us, pk_us, pk_us, pk_un hy, pk_un hy, pk_un hy]
      exact ⟨rfl, rfl, rfl⟩
    · have := (hR a ha).1
      rw [pk_un e, pk_un e, pk_un e, pk_un (by omega), pk_un (by omega), pk_un (by omega)]
      exact hc a (by omega)
  · have e : a ≠ N := fun e => by subst e; omega
    rw [pk_un e, pk_un e, pk_un e, hb a (by omega) hra]
    refine pv_bf_cg (fun k hk => (pk_un ?_).symm) 12
    rcases (bb_orT k).mp hk with w | w
    · have := dF a k (by omega) w; omega
    · have := dG a k (by omega) w; omega
theorem pv_Zs_old {ro' fl' fr' : Nat → Int32} (hro : ∀ a, a < N → pv_rt ro a = pv_rt ro' a) (hl : ∀ g, g < N → fl g = fl' g) (hr : ∀ g, g < N → fr g = fr' g) (h : pv_Zs N ro fl fr su) : pv_Zs N ro' fl' fr' su := by
  intro p hp
  refine pv_Gd_cg hl hr (fun i hi => pv_D_le (hp i hi)) (h p fun i hi => ?_)
  rcases hp i hi with z | ⟨t, g, ht, hg, hrt, z⟩
  · exact Or.inl z
  · exact Or.inr ⟨t, g, ht, hg, (hro g hg).trans hrt, z⟩
theorem xw_build {post : Int32 → SX → Prop} (h : pv_R C N T dl dr lf rg up dn ro fl fr bi su tg tt ns op df) (hN : N < C)
    (H : ∀ up' dn' ro' fl' fr' bi' su', pv_G (N + 1) (upd lf N dl) (upd rg N dr) up' dn' ro' fl' fr' bi' → pv_Zs (N + 1) ro' fl' fr' su' →
      post (nI N) (nI C, nI (N + 1), 0, 0, nI T, upd lf N dl, upd rg N dr, up', dn', ro', fl', fr', bi', su', tg, tt, ns)) : wpX_build post (nI C, nI N, dl, dr, nI T, lf, rg, up, dn, ro, fl, fr, bi, su, tg, tt, ns) := by
  obtain ⟨⟨h8, h12, hNC, hT, hns⟩, hG, hZ, ⟨hdl, hdr⟩, _⟩ := h
  have hn : N < 12 := by omega
  have i1 := vp_in_nI hn (show 12 < 2 ^ 31 by omega)
  obtain ⟨dF, dG⟩ := pv_G_dn (by omega) hG
  obtain ⟨g1, g2, g3, g4, g5, g6, g7, g8, g9, g10⟩ := id hG
  have hl' := pv_dn_upd g1 hdl
  have hr' := pv_dn_upd g2 hdr
  unfold wpX_build
  dsimp only
  refine br_t (nI_lt hN (by omega)) ⟨i1, ?_⟩
  rw [nI_clamp (show N < 2 ^ 31 by omega)]
  refine nm_e ⟨i1, nm_e (nm_r (nI_1 N) ?_)⟩
  refine xw_link hn hl' hr' g3 g4 (og_Ord_cg (fun a x ha => g1 a x (by omega)) (fun a x ha => g2 a x (by omega)) (fun a x ha => pv_m_upd ha) (fun a x ha => pv_m_upd ha) (fun _ _ _ _ => Iff.rfl) g5) (fun up' dn' hE => ⟨i1, i1, ?_⟩)
  have nn : pv_m up' N N := (og_pre hE.2.2.1 (fun a x ha => hl' a x (by omega)) (fun a x ha => hr' a x (by omega))).1 N (by omega)
  refine xw_low ⟨N, hn, (bb_andT N).mpr ⟨nn, (hE.2.1 N N (by omega) (by omega)).mpr nn⟩⟩ (fun y hy hby hmin => ⟨i1, nm_e ⟨i1, ?_⟩⟩)
  rw [pk_us]
  have hP := pv_pre hn hG hl' hr' hE hby hmin
  have hrt : ∀ a, a < N → pv_rt ro a = pv_rt (upd ro N (nI y)) a := fun a ha => (pv_rt_n (by omega)).symm
  have hro : ∀ g, g < N + 1 → pv_rt (upd ro N (nI y)) g ≤ g ∧ upd ro N (nI y) g = nI (pv_rt (upd ro N (nI y)) g) := fun g hg => ⟨(hP.1.2.2.2 g hg).1, hP.2.2.1 g hg⟩
  have hc' : ∀ a, a < N → fl a = fl (pv_rt (upd ro N (nI y)) a) ∧ fr a = fr (pv_rt (upd ro N (nI y)) a) ∧ bi a = bi (pv_rt (upd ro N (nI y)) a) := fun a ha => by rw [← hrt a ha]; exact g9 a ha
  have hb' : ∀ a, a < N → pv_rt (upd ro N (nI y)) a = a → bi a = pv_bf (fl a ||| fr a) bi 12 := fun a ha e => g10 a ha ((hrt a ha).trans e)
  refine pk_eq y N (fun e => ?_) (fun e => ?_)
  · subst e
    refine xw_simp hn hP.1 hP.2.1 hP.2.2.2.2.1 (fun g hg => hro g (by omega)) (fun A B hA hB => ?_)
    have hG' := pv_G_root (bi := bi) hn hl' hr' hP dF dG hc' hb' hA hB
    obtain ⟨dF', dG'⟩ := pv_G_dn (by omega) hG'
    exact xw_es hn hns dF' dG' hro (fun su' hZ' => H _ _ _ _ _ _ _ hG' hZ') (pv_Zs_old hrt (fun g hg => (pk_un (by omega)).symm) (fun g hg => (pk_un (by omega)).symm) hZ)
  · have hyN := hP.2.2.2.2.2.2.2
    refine xw_copy hn hy pk_us ?_
    refine H _ _ _ _ _ _ _ (pv_G_copy hn hl' hr' hP e dF dG hc' hb') ?_
    intro p hp
    refine pv_Zs_old (ro := ro) (fl := fl) (fr := fr) hrt (fun g hg => (pk_un (by omega)).symm) (fun g hg => (pk_un (by omega)).symm) hZ p (fun i hi => ?_)
    rcases hp i hi with z | ⟨t, g, ht, hg, hg2, z⟩
    · exact Or.inl z
    · have e2 : g ≠ N := fun w => by
        subst w
        rw [hP.2.2.2.2.2.2.1] at hg2
        exact e hg2
      exact Or.inr ⟨t, g, ht, by omega, hg2, z⟩
/-! build, both -/
theorem pv_op_upd (hN : N < 12) (ho : ∀ g, g < 12 → op g = lf g ∧ op (12 + g) = rg g) : ∀ g, g < 12 → upd (upd op N dl) (12 + N) dr g = upd lf N dl g ∧ upd (upd op N dl) (12 + N) dr (12 + g) = upd rg N dr g := by
  intro g hg
  rw [pk_un (show g ≠ 12 + N by omega)]
  by_cases e : g = N
  · subst e
    rw [pk_us, pk_us, pk_us, pk_us]
    exact ⟨rfl, rfl⟩
  · rw [pk_un e, pk_un e, pk_un (show 12 + g ≠ 12 + N by omega), pk_un (show 12 + g ≠ N by omega), pk_un e]
    exact ho g hg
theorem i_vc_build {k : Nat} {u : SX} {v : SY} (I : i_Rel k u v) (hk : k + 4 ≤ 2049) : wpX_build (fun r u' => wpY_build (fun r' v' => r' = r ∧ i_Rel (k + 4) u' v') v) u := by
  refine pv_el (P := fun u v => wpX_build (fun r u' => wpY_build (fun r' v' => r' = r ∧ i_Rel (k + 4) u' v') v) u) ?_ I
  intro C N T dl dr lf rg up dn ro fl fr bi su tg tt ns op df fi wi fo bs h
  have h' := h
  obtain ⟨⟨h8, h12, hNC, hT, hns⟩, hG, hZ, ⟨hdl, hdr⟩, hg, ht, ho, hd0, hd1⟩ := h'
  rcases Nat.lt_or_ge N C with hN | hN
  · refine xw_build h hN (fun up' dn' ro' fl' fr' bi' su' hG' hZ' => ?_)
    have i1 := vp_in_nI (show N < 24 by omega) (show 24 < 2 ^ 31 by omega)
    have e1 : (12 : Int32) + nI N = nI (12 + N) := nI_add 12 N
    have i2 := vp_in_nI (show 12 + N < 24 by omega) (show 24 < 2 ^ 31 by omega)
    refine br_f (fun e => absurd ((nI_eq (by omega) (by omega)).mp e) (by omega)) ⟨i1, ?_⟩
    rw [e1, nI_clamp (show N < 2 ^ 31 by omega), nI_clamp (show 12 + N < 2 ^ 31 by omega), hd0, hd1]
    refine nm_e ⟨i2, nm_e (nm_e (nm_e (nm_r (nI_1 N) ⟨nI_pred N, pv_in ?_⟩)))⟩
    exact ⟨⟨h8, h12, by omega, hT, hns⟩, hG', hZ', ⟨fun x w => absurd w (bb_0F x), fun x w => absurd w (bb_0F x)⟩, fun i hi => (hg i hi).imp fun g w => ⟨by omega, w.2⟩, ht, pv_op_upd (by omega) ho, rfl, rfl⟩
  · obtain rfl : N = C := by omega
    exact br_f (nI_nlt (Nat.le_refl _) (by omega)) (br_t rfl ⟨rfl, pv_in h⟩)
end BU
end
section
/-! Y: small methods; the methods that need no tables of Y -/
section YS
variable {yc yn yt : Int32} {op df ga tu fi wi fo bs : Nat → Int32}
theorem yw_has {A B : Prop} {u : SY} {m : Int32} {i : Nat} (hi : i < 32) (h0 : bt m i = false → A) (h1 : bt m i = true → B) :
    wpY_has (fun r => (r = 0 → A) ∧ (¬ r = 0 → B)) u m (nI i) := by
  obtain ⟨_, _, _, _, _, _, _, _, _, _, _⟩ := u
  exact br_c (fun z => br_f (by decide) (h1 ((bb_has1 hi).mp z))) (fun z => br_t rfl (h0 (ts_nt (fun w => z ((bb_has1 hi).mpr w)))))
theorem yw_sideT {A B : Prop} {u : SY} {s : Nat} (hs : s < 2) (h : B) : wpY_isSide (fun r => (r = 0 → A) ∧ (¬ r = 0 → B)) u (nI s) := by
  obtain ⟨_, _, _, _, _, _, _, _, _, _, _⟩ := u
  have h2 : s = 0 ∨ s = 1 := by omega
  rcases h2 with rfl | rfl
  · exact br_t rfl (br_f (by decide) h)
  · exact br_f (by decide) (br_t rfl (br_f (by decide) h))
theorem yw_sideF {A B : Prop} {u : SY} {x : Int32} (hs : ¬ ∃ s, s < 2 ∧ x = nI s) (h : A) : wpY_isSide (fun r => (r = 0 → A) ∧ (¬ r = 0 → B)) u x := by
  obtain ⟨_, _, _, _, _, _, _, _, _, _, _⟩ := u
  exact br_f (fun e => hs ⟨0, by decide, e⟩) (br_f (fun e => hs ⟨1, by decide, e⟩) (br_t rfl h))
theorem yw_gameT {A B : Prop} {N g : Nat} (hN : N < 13) (hg : g < N) (hc : yn = nI N) (h : B) : wpY_isGame (fun r => (r = 0 → A) ∧ (¬ r = 0 → B)) (yc, yn, yt, op, df, ga, tu, fi, wi, fo, bs) (nI g) :=
  br_f (nI_pos (by omega)) (pk_le N g (fun z => absurd hg (by omega)) (fun _ => br_f (by decide) h) hc rfl)
theorem yw_gameF {A B : Prop} {N : Nat} {x : Int32} (hN : N < 13) (hg : ¬ ∃ g, g < N ∧ x = nI g) (hc : yn = nI N) (h : A) : wpY_isGame (fun r => (r = 0 → A) ∧ (¬ r = 0 → B)) (yc, yn, yt, op, df, ga, tu, fi, wi, fo, bs) x :=
  br_c (fun _ => br_t rfl h) (fun z => br_t (hc ▸ pv_nlt hN hg z) (br_t rfl h))
theorem yw_used {post : Int32 → Prop} {s g t : Nat} (hs : s < 2) (ht : t < 2) (hg : g < 12) (h : post (op (((s + t) % 2) * 12 + g))) : wpY_used post (yc, yn, yt, op, df, ga, tu, fi, wi, fo, bs) (nI s) (nI g) (nI t) := by
  have e : nI s * 12 + nI g = nI (s * 12 + g) := by rw [show nI s * 12 = nI (s * 12) from pk_mul s 12, nI_add]
  have e2 : (1 - nI s) * 12 + nI g = nI ((1 - s) * 12 + g) := by
    rw [show (1 : Int32) - nI s = nI (1 - s) from pk_sub (a := 1) (by omega), show nI (1 - s) * 12 = nI ((1 - s) * 12) from pk_mul _ 12, nI_add]
  have h2 : t = 0 ∨ t = 1 := by omega
  rcases h2 with rfl | rfl
  · refine br_t rfl ?_
    rw [e, nI_clamp (by omega)]
    refine ⟨vp_in_nI (by omega) (by omega), ?_⟩
    rw [show (s + 0) % 2 = s by omega] at h
    exact h
  · refine br_f (by decide) ?_
    rw [e2, nI_clamp (by omega)]
    refine ⟨vp_in_nI (by omega) (by omega), ?_⟩
    rw [show (s + 1) % 2 = 1 - s by omega] at h
    exact h
def pv_wt (i : Nat) : Nat := if i = 0 then 1 else if i = 1 then 13 else 169
theorem yw_weight {post : Int32 → Prop} {u : SY} {i : Nat} (hi : i < 3) (h : post (nI (pv_wt i))) : wpY_weight post u (nI i) := by
  obtain ⟨_, _, _, _, _, _, _, _, _, _, _⟩ := u
  have h3 : i = 0 ∨ i = 1 ∨ i = 2 := by omega
  rcases h3 with rfl | rfl | rfl
  · exact br_t rfl h
  · exact br_f (by decide) (br_t rfl h)
  · exact br_f (by decide) (br_f (by decide) h)
end YS
section EA
variable {C N T ns : Nat} {dl dr : Int32} {lf rg up dn ro fl fr bi su tg tt op df fi wi fo bs : Nat → Int32}
theorem i_vc_count {k : Nat} {u : SX} {v : SY} (I : i_Rel k u v) (hk : k + 4 ≤ 2049) : wpX_count (fun r => wpY_count (fun r' => r' = r ∧ i_Rel (k + 4) u v) v) u := by
  refine pv_el (P := fun u v => wpX_count (fun r => wpY_count (fun r' => r' = r ∧ i_Rel (k + 4) u v) v) u) ?_ I
  intro C N T dl dr lf rg up dn ro fl fr bi su tg tt ns op df fi wi fo bs h
  exact ⟨rfl, pv_in h⟩
theorem i_vc_offer {k : Nat} {u : SX} {v : SY} (I : i_Rel k u v) (hk : k + 4 ≤ 2049) (v1 : Int32) (v2 : Int32) : wpX_offer (fun r u' => wpY_offer (fun r' v' => r' = r ∧ i_Rel (k + 4) u' v') v v1 v2) u v1 v2 := by
  refine pv_el (P := fun u v => wpX_offer (fun r u' => wpY_offer (fun r' v' => r' = r ∧ i_Rel (k + 4) u' v') v v1 v2) u v1 v2) ?_ I
  intro C N T dl dr lf rg up dn ro fl fr bi su tg tt ns op df fi wi fo bs h
  have h' := h
  obtain ⟨⟨h8, h12, hNC, hT, hns⟩, hG, hZ, ⟨hdl, hdr⟩, hg, ht, ho, hd0, hd1⟩ := h'
  unfold wpX_offer wpY_offer
  dsimp only
  by_cases hs : ∃ s, s < 2 ∧ v1 = nI s
  · obtain ⟨s, hs, rfl⟩ := hs
    refine xw_sideT hs ?_
    by_cases hv : ∃ g, g < N ∧ v2 = nI g
    · obtain ⟨g, hgN, rfl⟩ := hv
      refine xw_gameT (by omega) hgN rfl ?_
      have h2 : s = 0 ∨ s = 1 := by omega
      rcases h2 with rfl | rfl
      · refine br_t rfl (nm_e (yw_sideT (by omega) (yw_gameT (by omega) hgN rfl ⟨vp_in_nI (by omega) (by omega), vp_in_nI (by omega) (by omega), ?_⟩)))
        rw [nI_clamp (by omega)]
        refine nm_e ⟨vp_in_nI (by omega) (by omega), by rw [pk_us, hd0], pv_in ?_⟩
        refine ⟨⟨h8, h12, hNC, hT, hns⟩, hG, hZ, ⟨bb_xorlt hgN (by omega) hdl, hdr⟩, hg, ht, ho, by rw [pk_us, hd0], by rw [pk_un (by decide), hd1]⟩
      · refine br_f (by decide) (nm_e (yw_sideT (by omega) (yw_gameT (by omega) hgN rfl ⟨vp_in_nI (by omega) (by omega), vp_in_nI (by omega) (by omega), ?_⟩)))
        rw [nI_clamp (by omega)]
        refine nm_e ⟨vp_in_nI (by omega) (by omega), by rw [pk_us, hd1], pv_in ?_⟩
        refine ⟨⟨h8, h12, hNC, hT, hns⟩, hG, hZ, ⟨hdl, bb_xorlt hgN (by omega) hdr⟩, hg, ht, ho, by rw [pk_un (by decide), hd0], by rw [pk_us, hd1]⟩
    · exact xw_gameF (by omega) hv rfl (yw_sideT hs (yw_gameF (by omega) hv rfl ⟨rfl, pv_in h⟩))
  · exact xw_sideF hs (yw_sideF hs ⟨rfl, pv_in h⟩)
theorem i_vc_options {k : Nat} {u : SX} {v : SY} (I : i_Rel k u v) (hk : k + 4 ≤ 2049) (v1 : Int32) (v2 : Int32) : wpX_options (fun r => wpY_options (fun r' => r' = r ∧ i_Rel (k + 4) u v) v v1 v2) u v1 v2 := by
  refine pv_el (P := fun u v => wpX_options (fun r => wpY_options (fun r' => r' = r ∧ i_Rel (k + 4) u v) v v1 v2) u v1 v2) ?_ I
  intro C N T dl dr lf rg up dn ro fl fr bi su tg tt ns op df fi wi fo bs h
  have h' := h
  obtain ⟨⟨h8, h12, hNC, hT, hns⟩, hG, hZ, ⟨hdl, hdr⟩, hg, ht, ho, hd0, hd1⟩ := h'
  unfold wpX_options wpY_options
  dsimp only
  by_cases hv : ∃ g, g < N ∧ v1 = nI g
  · obtain ⟨g, hgN, rfl⟩ := hv
    refine xw_gameT (by omega) hgN rfl ?_
    by_cases hs : ∃ s, s < 2 ∧ v2 = nI s
    · obtain ⟨s, hs, rfl⟩ := hs
      refine xw_sideT hs ?_
      rw [nI_clamp (show g < 2 ^ 31 by omega)]
      have i1 := vp_in_nI (show g < 12 by omega) (show 12 < 2 ^ 31 by omega)
      have e : nI s * 12 + nI g = nI (s * 12 + g) := by rw [show nI s * 12 = nI (s * 12) from pk_mul s 12, nI_add]
      rw [e, nI_clamp (by omega)]
      have i2 := vp_in_nI (show s * 12 + g < 24 by omega) (show 24 < 2 ^ 31 by omega)
      obtain ⟨o1, o2⟩ := ho g (by omega)
      have h2 : s = 0 ∨ s = 1 := by omega
      rcases h2 with rfl | rfl
      · exact br_t rfl ⟨i1, yw_gameT (by omega) hgN rfl (yw_sideT hs ⟨i2, by rw [show 0 * 12 + g = g by omega]; exact o1, pv_in h⟩)⟩
      · exact br_f (by decide) ⟨i1, yw_gameT (by omega) hgN rfl (yw_sideT hs ⟨i2, o2, pv_in h⟩)⟩
    · exact xw_sideF hs (yw_gameT (by omega) hgN rfl (yw_sideF hs ⟨rfl, pv_in h⟩))
  · exact xw_gameF (by omega) hv rfl (yw_gameF (by omega) hv rfl ⟨rfl, pv_in h⟩)
theorem pv_vb {t : Nat} (ht : t < 2) : vp_nar .boolean (nI t) = nI t := by
  have h2 : t = 0 ∨ t = 1 := by omega
  rcases h2 with rfl | rfl <;> decide
theorem pv_bz (v : Int32) : ∃ t, t < 2 ∧ lw_bz v = nI t := (lw_bz_01 v).elim (fun e => ⟨0, by omega, e⟩) (fun e => ⟨1, by omega, e⟩)
theorem pv_tt {tt : Nat → Int32} {i t : Nat} (hT : t < 2) (ht : ∀ i, ∃ t, t < 2 ∧ tt i = nI t) : ∀ j, ∃ t', t' < 2 ∧ upd tt i (nI t) j = nI t' := by
  intro j
  by_cases e : j = i
  · subst e; rw [pk_us]; exact ⟨t, hT, rfl⟩
  · rw [pk_un e]; exact ht j
theorem i_vc_put {k : Nat} {u : SX} {v : SY} (I : i_Rel k u v) (hk : k + 4 ≤ 2049) (v1 : Int32) (v2 : Int32) : wpX_put (fun r u' => wpY_put (fun r' v' => r' = r ∧ i_Rel (k + 4) u' v') v v1 (lw_bz v2)) u v1 (lw_bz v2) := by
  refine pv_el (P := fun u v => wpX_put (fun r u' => wpY_put (fun r' v' => r' = r ∧ i_Rel (k + 4) u' v') v v1 (lw_bz v2)) u v1 (lw_bz v2)) ?_ I
  intro C N T dl dr lf rg up dn ro fl fr bi su tg tt ns op df fi wi fo bs h
  have h' := h
  obtain ⟨⟨h8, h12, hNC, hT, hns⟩, hG, hZ, ⟨hdl, hdr⟩, hg, ht, ho, hd0, hd1⟩ := h'
  obtain ⟨t, ht2, e2⟩ := pv_bz v2
  unfold wpX_put wpY_put
  dsimp only
  rw [e2, pv_vb ht2]
  by_cases hv : ∃ g, g < N ∧ v1 = nI g
  · obtain ⟨g, hgN, rfl⟩ := hv
    refine xw_gameT (by omega) hgN rfl ?_
    rcases Nat.lt_or_ge T 3 with hT3 | hT3
    · have c : nI T < 3 := nI_lt (b := 3) hT3 (by omega)
      have i1 := vp_in_nI hT3 (show 3 < 2 ^ 31 by omega)
      refine br_t c ⟨i1, ?_⟩
      rw [nI_clamp (show T < 2 ^ 31 by omega)]
      refine nm_e ⟨i1, nm_e (nm_r (nI_1 T) (yw_gameT (by omega) hgN rfl (br_t c ⟨i1, nm_e ⟨i1, nm_e (nm_r (nI_1 T) ⟨nI_pred T, pv_in ?_⟩)⟩⟩)))⟩
      refine ⟨⟨h8, h12, hNC, hT3, hns⟩, hG, hZ, ⟨hdl, hdr⟩, fun i hi => ?_, pv_tt ht2 ht, ho, hd0, hd1⟩
      by_cases e : i = T
      · subst e; rw [pk_us]; exact ⟨g, hgN, rfl⟩
      · rw [pk_un e]; exact hg i (by omega)
    · have c : ¬ nI T < 3 := nI_nlt (b := 3) hT3 (by omega)
      exact br_f c (yw_gameT (by omega) hgN rfl (br_f c ⟨rfl, pv_in h⟩))
  · exact xw_gameF (by omega) hv rfl (yw_gameF (by omega) hv rfl ⟨rfl, pv_in h⟩)
theorem i_vc_clear {k : Nat} {u : SX} {v : SY} (I : i_Rel k u v) (hk : k + 4 ≤ 2049) : wpX_clear (fun u' => wpY_clear (fun v' => i_Rel (k + 4) u' v') v) u := by
  refine pv_el (P := fun u v => wpX_clear (fun u' => wpY_clear (fun v' => i_Rel (k + 4) u' v') v) u) ?_ I
  intro C N T dl dr lf rg up dn ro fl fr bi su tg tt ns op df fi wi fo bs h
  obtain ⟨⟨h8, h12, hNC, hT, hns⟩, hG, hZ, ⟨hdl, hdr⟩, hg, ht, ho, hd0, hd1⟩ := h
  show i_Rel (k + 4) (nI C, nI N, dl, dr, nI 0, lf, rg, up, dn, ro, fl, fr, bi, su, tg, tt, ns) (nI C, nI N, nI 0, op, df, tg, tt, fi, wi, fo, bs)
  exact pv_in ⟨⟨h8, h12, hNC, by omega, hns⟩, hG, hZ, ⟨hdl, hdr⟩, fun i hi => absurd hi (by omega), ht, ho, hd0, hd1⟩
theorem i_vc_term {k : Nat} {u : SX} {v : SY} (I : i_Rel k u v) (hk : k + 4 ≤ 2049) (v1 : Int32) : wpX_term (fun r => wpY_term (fun r' => r' = r ∧ i_Rel (k + 4) u v) v v1) u v1 := by
  refine pv_el (P := fun u v => wpX_term (fun r => wpY_term (fun r' => r' = r ∧ i_Rel (k + 4) u v) v v1) u v1) ?_ I
  intro C N T dl dr lf rg up dn ro fl fr bi su tg tt ns op df fi wi fo bs h
  have h' := h
  obtain ⟨⟨h8, h12, hNC, hT, hns⟩, hG, hZ, ⟨hdl, hdr⟩, hg, ht, ho, hd0, hd1⟩ := h'
  unfold wpX_term wpY_term
  dsimp only
  by_cases hv : ∃ i, i < T ∧ v1 = nI i
  · obtain ⟨i, hi, rfl⟩ := hv
    have i1 := vp_in_nI (show i < 3 by omega) (show 3 < 2 ^ 31 by omega)
    refine xw_placeT (by omega) hi rfl ⟨i1, ?_⟩
    refine br_c (fun z => ⟨i1, ?_⟩) (fun z => ⟨i1, ?_⟩)
    · exact br_f (nI_pos (by omega)) (br_t (nI_lt hi (by omega)) ⟨i1, br_t z ⟨i1, rfl, pv_in h⟩⟩)
    · exact br_f (nI_pos (by omega)) (br_t (nI_lt hi (by omega)) ⟨i1, br_f z ⟨i1, rfl, pv_in h⟩⟩)
  · refine xw_placeF (by omega) hv rfl ?_
    exact br_c (fun _ => ⟨rfl, pv_in h⟩) (fun z => br_f (Int32.not_lt.mpr (pv_nlt (by omega) hv z)) ⟨rfl, pv_in h⟩)
/-! forget -/
theorem xw_onT {post : Int32 → Prop} {cap cnt : Int32} {n : Nat} (hT : T ≤ 3) (h1 : (∃ i, i < T ∧ tg i = nI n) → post 1) (h0 : (∀ i, i < T → ¬ tg i = nI n) → post 0) :
    ∀ d i, i + d = T → (∀ j, j < i → ¬ tg j = nI n) → wX_onTable_2 post (nI n) cap cnt dl dr (nI T) lf rg up dn ro fl fr bi su tg tt ns (d + 1) (nI i) := by
  intro d
  induction d with
  | zero =>
    intro i hi hj
    exact pk_le T i (fun _ => h0 (fun j hjT => hj j (by omega))) (fun z => absurd z (by omega))
  | succ d ih =>
    intro i hi hj
    refine pk_le T i (fun z => absurd z (by omega)) (fun _ => ⟨vp_in_nI (by omega) (by omega), ?_⟩)
    rw [nI_clamp (by omega)]
    refine br_c (fun z => h1 ⟨i, by omega, z⟩) (fun z => nm_r (nI_1 i) (ih (i + 1) (by omega) (fun j hji => ?_)))
    by_cases e : j = i
    · subst e; exact z
    · exact hj j (by omega)
theorem yw_fo53 {post : Int32 → SY → Prop} {yc : Int32} {n : Nat} (hT : T ≤ 3) (h1 : (∃ i, i < T ∧ tg i = nI n) → post (-4) (yc, nI (n + 1), nI T, op, df, tg, tt, fi, wi, fo, bs)) (h0 : (∀ i, i < T → ¬ tg i = nI n) → post (nI n) (yc, nI n, nI T, op, df, tg, tt, fi, wi, fo, bs)) :
    ∀ d i, i + d = T → (∀ j, j < i → ¬ tg j = nI n) → wY_forget_53 post yc (nI (n + 1)) (nI T) op df tg tt fi wi fo bs (d + 1) (nI i) := by
  intro d
  induction d with
  | zero =>
    intro i hi hj
    exact pk_le T i (fun _ => nm_r (nI_pred n) (h0 (fun j hjT => hj j (by omega)))) (fun z => absurd z (by omega))
  | succ d ih =>
    intro i hi hj
    refine pk_le T i (fun z => absurd z (by omega)) (fun _ => ⟨vp_in_nI (by omega) (by omega), ?_⟩)
    rw [nI_clamp (by omega), nI_pred]
    refine br_c (fun z => h1 ⟨i, by omega, z⟩) (fun z => nm_r (nI_1 i) (ih (i + 1) (by omega) (fun j hji => ?_)))
    by_cases e : j = i
    · subst e; exact z
    · exact hj j (by omega)
theorem pv_del {f g : Nat → Int32} {k n : Nat} {a b : Nat} (hn : n < 32) (h : g = upd f k (f k &&& (((1 : Int32) <<< (nI n &&& 31)) ^^^ (-1)))) : pv_m g a b ↔ pv_m f a b ∧ ¬ (a = k ∧ b = n) := by
  subst h
  unfold pv_m
  by_cases e : a = k
  · subst e
    rw [pk_us, bb_delT hn]
    exact ⟨fun h => ⟨h.1, fun z => h.2 z.2⟩, fun h => ⟨h.1, fun z => h.2 ⟨rfl, z⟩⟩⟩
  · rw [pk_un e]
    exact ⟨fun h => ⟨h, fun z => e z.1⟩, fun h => h.1⟩
theorem xw_fo53 {post : Int32 → SX → Prop} {cap cnt tm : Int32} {n : Nat} {U D : Nat → Int32} (hn : n < 12)
    (h : ∀ up' dn', (∀ a b, a < n → ((pv_m up' a b ↔ pv_m U a b ∧ b ≠ n) ∧ (pv_m dn' a b ↔ pv_m D a b ∧ b ≠ n))) → post (nI n) (cap, nI n, dl, dr, tm, lf, rg, up', dn', ro, fl, fr, bi, su, tg, tt, ns)) :
    ∀ d i up dn, i + d = n → (∀ a b, a < n → ((pv_m up a b ↔ pv_m U a b ∧ ¬ (a < i ∧ b = n)) ∧ (pv_m dn a b ↔ pv_m D a b ∧ ¬ (a < i ∧ b = n)))) →
      wX_forget_53 post (nI n) (((1 : Int32) <<< (nI n &&& 31)) ^^^ (-1)) cap cnt dl dr tm ns (d + 1) (nI i) lf rg up dn ro fl fr bi su tg tt := by
  intro d
  induction d with
  | zero =>
    intro i up dn hi hI
    refine pk_le n i (fun _ => h up dn (fun a b ha => ?_)) (fun z => absurd z (by omega))
    obtain ⟨q1, q2⟩ := hI a b ha
    exact ⟨q1.trans ⟨fun z => ⟨z.1, fun e => z.2 ⟨by omega, e⟩⟩, fun z => ⟨z.1, fun e => z.2 e.2⟩⟩, q2.trans ⟨fun z => ⟨z.1, fun e => z.2 ⟨by omega, e⟩⟩, fun z => ⟨z.1, fun e => z.2 e.2⟩⟩⟩
  | succ d ih =>
    intro i up dn hi hI
    have i2 := vp_in_nI (show i < 12 by omega) (show 12 < 2 ^ 31 by omega)
    refine pk_le n i (fun z => absurd z (by omega)) (fun _ => ⟨i2, i2, ?_⟩)
    rw [nI_clamp (show i < 2 ^ 31 by omega)]
    refine nm_e ⟨i2, i2, nm_e (nm_r (nI_1 i) (ih (i + 1) _ _ (by omega) (fun a b ha => ?_)))⟩
    obtain ⟨q1, q2⟩ := hI a b ha
    rw [pv_del (by omega) rfl, pv_del (by omega) rfl, q1, q2]
    have e : (¬ (a < i ∧ b = n) ∧ ¬ (a = i ∧ b = n)) ↔ ¬ (a < i + 1 ∧ b = n) := by omega
    rw [and_assoc, and_assoc, e]
    exact ⟨Iff.rfl, Iff.rfl⟩
theorem pv_G_less {n : Nat} {up' dn' : Nat → Int32} (hn : n < 12) (hG : pv_G (n + 1) lf rg up dn ro fl fr bi) (h : ∀ a b, a < n → ((pv_m up' a b ↔ pv_m up a b ∧ b ≠ n) ∧ (pv_m dn' a b ↔ pv_m dn a b ∧ b ≠ n))) : pv_G n lf rg up' dn' ro fl fr bi := by
  obtain ⟨dF, dG⟩ := pv_G_dn (by omega) hG
  obtain ⟨g1, g2, g3, g4, g5, g6, g7, g8, g9, g10⟩ := hG
  have hle : ∀ a b, a < n → b < n → (pv_m up a b ↔ pv_m up' a b) := fun a b ha hb => ⟨fun z => (h a b ha).1.mpr ⟨z, by omega⟩, fun z => ((h a b ha).1.mp z).1⟩
  have hde : ∀ a b, a < n → b < n → (pv_m dn a b ↔ pv_m dn' a b) := fun a b ha hb => ⟨fun z => (h a b ha).2.mpr ⟨z, by omega⟩, fun z => ((h a b ha).2.mp z).1⟩
  refine ⟨g1, g2, fun a b ha => ⟨fun z => ?_, fun z => ?_⟩, fun a b ha hb => ?_, og_Ord_cg (fun a x ha => g1 a x (by omega)) (fun a x ha => g2 a x (by omega)) (fun _ _ _ => Iff.rfl) (fun _ _ _ => Iff.rfl) hle (fun a b ha hb => g5 a b (by omega) (by omega)),
    fun a ha => g6 a (by omega), og_Rt_cg hle (fun _ _ => rfl) (fun a ha => g7 a (by omega)), og_F_cg hle (fun _ _ => rfl) (fun a x ha => dF a x (by omega)) (fun a x ha => dG a x (by omega)) (fun _ _ _ => Iff.rfl) (fun _ _ _ => Iff.rfl) (fun g hg => g8 g (by omega)), fun a ha => g9 a (by omega), fun a ha => g10 a (by omega)⟩
  · obtain ⟨z1, z2⟩ := (h a b ha).1.mp z
    have := (g3 a b (by omega)).1 z1
    omega
  · obtain ⟨z1, z2⟩ := (h a b ha).2.mp z
    have := (g3 a b (by omega)).2 z1
    omega
  · rw [← hle b a hb ha, ← hde a b ha hb]
    exact g4 a b (by omega) (by omega)
theorem i_vc_forget {k : Nat} {u : SX} {v : SY} (I : i_Rel k u v) (hk : k + 4 ≤ 2049) : wpX_forget (fun r u' => wpY_forget (fun r' v' => r' = r ∧ i_Rel (k + 4) u' v') v) u := by
  refine pv_el (P := fun u v => wpX_forget (fun r u' => wpY_forget (fun r' v' => r' = r ∧ i_Rel (k + 4) u' v') v) u) ?_ I
  intro C N T dl dr lf rg up dn ro fl fr bi su tg tt ns op df fi wi fo bs h
  have h' := h
  obtain ⟨⟨h8, h12, hNC, hT, hns⟩, hG, hZ, ⟨hdl, hdr⟩, hg, ht, ho, hd0, hd1⟩ := h'
  cases N with
  | zero => exact br_t rfl (br_t rfl ⟨rfl, pv_in h⟩)
  | succ n =>
    have nz : ¬ nI (n + 1) = 0 := nI_ne0 (by omega) (by omega)
    have hn : n < 12 := by omega
    unfold wpX_forget wpY_forget
    dsimp only
    rw [nI_pred, hd0, hd1]
    refine br_f nz (nm_e (xw_has (by omega) (fun hb => ?_) (fun hb => ?_)))
    · rw [b_or, Bool.or_eq_false_iff] at hb
      obtain ⟨b1, b2⟩ := hb
      refine ⟨T + 1, xw_onT hT (fun hyes => ?_) (fun hno => ?_) T 0 (by omega) (fun j hj => absurd hj (Nat.not_lt_zero j))⟩
      · obtain ⟨i, hi, e⟩ := hyes
        refine br_f (by decide) (br_f nz (yw_has (by omega) (fun _ => yw_has (by omega) (fun _ => ⟨T + 1, yw_fo53 hT (fun _ => ⟨rfl, pv_in h⟩) (fun hno => absurd e (hno i hi)) T 0 (by omega) (fun j hj => absurd hj (Nat.not_lt_zero j))⟩) (fun z => ?_)) (fun z => ?_)))
        · rw [b2] at z; exact absurd z (by decide)
        · rw [b1] at z; exact absurd z (by decide)
      · refine br_t rfl (nm_e ⟨n + 1, xw_fo53 (U := up) (D := dn) hn (fun up' dn' hU => ?_) n 0 up dn (by omega) (fun a b _ => ⟨⟨fun z => ⟨z, fun w => absurd w.1 (Nat.not_lt_zero a)⟩, fun z => z.1⟩, ⟨fun z => ⟨z, fun w => absurd w.1 (Nat.not_lt_zero a)⟩, fun z => z.1⟩⟩)⟩)
        refine br_f nz (yw_has (by omega) (fun _ => yw_has (by omega) (fun _ => ⟨T + 1, yw_fo53 hT (fun hy => absurd hy (fun w => w.elim fun i q => hno i q.1 q.2)) (fun _ => ?_) T 0 (by omega) (fun j hj => absurd hj (Nat.not_lt_zero j))⟩) (fun z => ?_)) (fun z => ?_))
        · have lt : ∀ (d : Int32), bt d n = false → (∀ x, bt d x = true → x < n + 1) → ∀ x, bt d x = true → x < n := by
            intro d hd hx x hb
            have := hx x hb
            have : x ≠ n := fun e => by rw [e, hd] at hb; exact absurd hb (by decide)
            omega
          refine ⟨rfl, pv_in ?_⟩
          refine ⟨⟨h8, h12, by omega, hT, hns⟩, pv_G_less hn hG hU, fun p hp => hZ p (fun i hi => ?_), ⟨lt dl b1 hdl, lt dr b2 hdr⟩, fun i hi => ?_, ht, ho, hd0, hd1⟩
          · rcases hp i hi with z | ⟨t, g, h1, h2, h3, h4⟩
            · exact Or.inl z
            · exact Or.inr ⟨t, g, h1, by omega, h3, h4⟩
          · obtain ⟨g, hgN, e⟩ := hg i hi
            have : g ≠ n := fun w => hno i hi (by rw [e, w])
            exact ⟨g, by omega, e⟩
        · rw [b2] at z; exact absurd z (by decide)
        · rw [b1] at z; exact absurd z (by decide)
    · rw [b_or, Bool.or_eq_true] at hb
      refine br_f nz (yw_has (by omega) (fun z => yw_has (by omega) (fun w => ?_) (fun _ => ⟨rfl, pv_in h⟩)) (fun _ => ⟨rfl, pv_in h⟩))
      rw [z, w] at hb
      exact absurd hb (by decide)
end EA
end
section
/-! Y: the table of wins -/
section YF
variable {yc yn yt : Int32} {op df ga tu fi wi fo bs : Nat → Int32}
def pv_dg (P i : Nat) : Nat := if i = 0 then P % 13 else if i = 1 then P / 13 % 13 else P / 169
def pv_mw (op wi : Nat → Int32) (f : Nat → Nat) (s P i o : Nat) : Prop :=
  pv_dg P i ≠ 0 ∧ bt (op (((s + f i) % 2) * 12 + (pv_dg P i - 1))) o = true ∧ wi ((1 - s) * 2197 + (P - (pv_dg P i - 1 - o) * pv_wt i)) = 0
theorem pv_dg_12 {P i : Nat} (hP : P < 2197) (hi : i < 3) : pv_dg P i ≤ 12 := by
  unfold pv_dg
  split
  · omega
  · split <;> omega
theorem pv_dg_wt {P i : Nat} (hP : P < 2197) (hi : i < 3) : pv_dg P i * pv_wt i ≤ P ∧ 1 ≤ pv_wt i := by
  unfold pv_dg pv_wt
  have h3 : i = 0 ∨ i = 1 ∨ i = 2 := by omega
  rcases h3 with rfl | rfl | rfl
  · show P % 13 * 1 ≤ P ∧ 1 ≤ 1
    omega
  · show P / 13 % 13 * 13 ≤ P ∧ 1 ≤ 13
    omega
  · show P / 169 * 169 ≤ P ∧ 1 ≤ 169
    omega
theorem pv_sm {a b w P : Nat} (hb : b ≤ a) (h : a * w ≤ P) : b * w ≤ P := Nat.le_trans (Nat.mul_le_mul_right w hb) h
def pv_Ob (op : Nat → Int32) : Prop := ∀ s g x, s < 2 → g < 12 → bt (op (s * 12 + g)) x = true → x < g
theorem yw_mw31 {A B : Prop} {f : Nat → Nat} {s P i o c : Nat} (hs : s < 2) (hP : P < 2197) (hi : i < 3) (ho : o < 12) (hf : f i < 2 ∧ fi i = nI (f i)) (hop : pv_Ob op) (hc : c = pv_dg P i)
    (h0 : ¬ pv_mw op wi f s P i o → A) (h1 : pv_mw op wi f s P i o → B) : wY_moveWins_31 (fun r => (r = 0 → A) ∧ (¬ r = 0 → B)) (nI s) (nI P) (nI i) (nI o) (nI c) yc yn yt op df ga tu fi wi fo bs := by
  obtain ⟨f1, f2⟩ := hf
  have c12 := pv_dg_12 hP hi
  obtain ⟨w1, w2⟩ := pv_dg_wt hP hi
  refine pk_eq c 0 (fun z => br_t rfl (h0 fun w => w.1 (by omega))) (fun z => ⟨vp_in_nI hi (by omega), ?_⟩)
  obtain ⟨k, rfl⟩ : ∃ k, c = k + 1 := ⟨c - 1, by omega⟩
  rw [nI_clamp (show i < 2 ^ 31 by omega), f2, nI_pred]
  refine yw_used hs f1 (by omega) (yw_has (by omega) (fun hb => br_t rfl (h0 fun w => ?_)) (fun hb => yw_weight hi ?_))
  · have := w.2.1
    rw [← hc, Nat.add_sub_cancel, hb] at this
    exact absurd this (by decide)
  · have hok := hop _ _ _ (Nat.mod_lt _ (by decide)) (by omega) hb
    have hle : (k - o) * pv_wt i ≤ P := pv_sm (by omega) w1
    have e : (1 - nI s) * 2197 + nI P - (nI k - nI o) * nI (pv_wt i) = nI ((1 - s) * 2197 + (P - (k - o) * pv_wt i)) := by
      rw [show (1 : Int32) - nI s = nI (1 - s) from pk_sub (a := 1) (by omega), show nI (1 - s) * 2197 = nI ((1 - s) * 2197) from pk_mul _ 2197, nI_add, pk_sub (show o ≤ k by omega), pk_mul, pk_sub (Nat.le_trans hle (Nat.le_add_left _ _)), Nat.add_sub_assoc hle]
    have hlt : (1 - s) * 2197 + (P - (k - o) * pv_wt i) < 4394 := by
      have : (1 - s) * 2197 ≤ 2197 := by rcases (show s = 0 ∨ s = 1 by omega) with rfl | rfl <;> decide
      omega
    rw [e, nI_clamp (by omega)]
    refine ⟨vp_in_nI hlt (by omega), ?_⟩
    have hmw : pv_mw op wi f s P i o ↔ wi ((1 - s) * 2197 + (P - (k - o) * pv_wt i)) = 0 := by
      unfold pv_mw
      rw [← hc, Nat.add_sub_cancel]
      exact ⟨fun w => w.2.2, fun w => ⟨by omega, hb, w⟩⟩
    exact br_c (fun z => br_f (by decide) (h1 (hmw.mpr z))) (fun z => br_t rfl (h0 fun w => z (hmw.mp w)))
theorem yw_mw {A B : Prop} {f : Nat → Nat} {s P i o : Nat} (hs : s < 2) (hP : P < 2197) (hi : i < 3) (ho : o < 12) (hf : f i < 2 ∧ fi i = nI (f i)) (hop : pv_Ob op)
    (h0 : ¬ pv_mw op wi f s P i o → A) (h1 : pv_mw op wi f s P i o → B) : wpY_moveWins (fun r => (r = 0 → A) ∧ (¬ r = 0 → B)) (yc, yn, yt, op, df, ga, tu, fi, wi, fo, bs) (nI s) (nI P) (nI i) (nI o) := by
  have r0 : nI P - nI P / 13 * 13 = nI (P % 13) := pk_rem (d := 13) (by omega) (by omega) (by omega)
  have r1 : nI P / 13 = nI (P / 13) := pk_div (d := 13) (by omega) (by omega) (by omega)
  have r2 : nI (P / 13) - nI (P / 13) / 13 * 13 = nI (P / 13 % 13) := pk_rem (d := 13) (by omega) (by omega) (by omega)
  have r3 : nI P / 169 = nI (P / 169) := pk_div (d := 169) (by omega) (by omega) (by omega)
  have h3 : i = 0 ∨ i = 1 ∨ i = 2 := by omega
  rcases h3 with rfl | rfl | rfl
  · refine br_t rfl ⟨by decide, ?_⟩
    rw [r0]
    exact yw_mw31 hs hP hi ho hf hop rfl h0 h1
  · refine br_f (by decide) (br_t rfl ⟨by decide, by decide, ?_⟩)
    rw [r1, r2]
    exact yw_mw31 hs hP hi ho hf hop rfl h0 h1
  · refine br_f (by decide) (br_f (by decide) ⟨by decide, ?_⟩)
    rw [r3]
    exact yw_mw31 hs hP hi ho hf hop rfl h0 h1
theorem yw_can10 {post : Int32 → Prop} {J : Int32 → Prop} {f : Nat → Nat} {n s P i : Nat} (hn : n ≤ 12) (hs : s < 2) (hP : P < 2197) (hi : i < 3) (hf : f i < 2 ∧ fi i = nI (f i)) (hop : pv_Ob op)
    (h1 : ∀ o, o < n → pv_mw op wi f s P i o → post 1) (h0 : (∀ o, o < n → ¬ pv_mw op wi f s P i o) → J (nI (i + 1))) :
    ∀ d o, o + d = n → (∀ j, j < o → ¬ pv_mw op wi f s P i j) → wY_canWin_10 post J (nI s) (nI P) (nI i) yc (nI n) yt op df ga tu fi wi fo bs (d + 1) (nI o) := by
  intro d
  induction d with
  | zero =>
    intro o ho hj
    exact pk_le n o (fun _ => nm_r (nI_1 i) (h0 (fun j hjn => hj j (by omega)))) (fun z => absurd z (by omega))
  | succ d ih =>
    intro o ho hj
    refine pk_le n o (fun z => absurd z (by omega)) (fun _ => yw_mw hs hP hi (by omega) hf hop (fun z => nm_r (nI_1 o) (ih (o + 1) (by omega) (fun j hjo => ?_))) (fun z => h1 o (by omega) z))
    by_cases e : j = o
    · subst e; exact z
    · exact hj j (by omega)
theorem yw_can2 {post : Int32 → Prop} {f : Nat → Nat} {n s P : Nat} (hn : n ≤ 12) (hs : s < 2) (hP : P < 2197) (hf : ∀ i, i < 3 → f i < 2 ∧ fi i = nI (f i)) (hop : pv_Ob op)
    (h1 : (∃ i, i < 3 ∧ ∃ o, o < n ∧ pv_mw op wi f s P i o) → post 1) (h0 : (¬ ∃ i, i < 3 ∧ ∃ o, o < n ∧ pv_mw op wi f s P i o) → post 0) :
    ∀ d i, i + d = 3 → (∀ j, j < i → ∀ o, o < n → ¬ pv_mw op wi f s P j o) → wY_canWin_2 post (nI s) (nI P) yc (nI n) yt op df ga tu fi wi fo bs (d + 1) (nI i) := by
  intro d
  induction d with
  | zero =>
    intro i hi hj
    exact pk_le 3 i (fun _ => h0 (fun ⟨j, hj3, o, ho, w⟩ => hj j (by omega) o ho w)) (fun z => absurd z (by omega))
  | succ d ih =>
    intro i hi hj
    refine pk_le 3 i (fun z => absurd z (by omega)) (fun _ => ⟨n + 1, yw_can10 hn hs hP (by omega) (hf i (by omega)) hop (fun o ho w => h1 ⟨i, by omega, o, ho, w⟩) (fun hno => ih (i + 1) (by omega) (fun j hji => ?_)) n 0 (by omega) (fun j hj => absurd hj (Nat.not_lt_zero j))⟩)
    by_cases e : j = i
    · subst e; exact hno
    · exact hj j (by omega)
theorem yw_can {post : Int32 → Prop} {f : Nat → Nat} {n s P : Nat} (hn : n ≤ 12) (hs : s < 2) (hP : P < 2197) (hf : ∀ i, i < 3 → f i < 2 ∧ fi i = nI (f i)) (hop : pv_Ob op)
    (h1 : (∃ i, i < 3 ∧ ∃ o, o < n ∧ pv_mw op wi f s P i o) → post 1) (h0 : (¬ ∃ i, i < 3 ∧ ∃ o, o < n ∧ pv_mw op wi f s P i o) → post 0) : wpY_canWin post (yc, nI n, yt, op, df, ga, tu, fi, wi, fo, bs) (nI s) (nI P) :=
  ⟨4, yw_can2 hn hs hP hf hop h1 h0 3 0 rfl (fun j hj => absurd hj (Nat.not_lt_zero j))⟩
/-! fill -/
def pv_Fi (op wi : Nat → Int32) (f : Nat → Nat) (n K : Nat) : Prop := ∀ P, P < K → ∀ s, s < 2 → (wi (s * 2197 + P) ≠ 0 ↔ ∃ i, i < 3 ∧ ∃ o, o < n ∧ pv_mw op wi f s P i o)
theorem pv_mw_cg {wi' : Nat → Int32} {f : Nat → Nat} {s P i o : Nat} (hs : s < 2) (hP : P < 2197) (hi : i < 3) (hop : pv_Ob op) (h : ∀ Q, Q < P → wi ((1 - s) * 2197 + Q) = wi' ((1 - s) * 2197 + Q)) : pv_mw op wi f s P i o ↔ pv_mw op wi' f s P i o := by
  have c12 := pv_dg_12 hP hi
  obtain ⟨w1, w2⟩ := pv_dg_wt hP hi
  have k : pv_dg P i ≠ 0 → bt (op (((s + f i) % 2) * 12 + (pv_dg P i - 1))) o = true → P - (pv_dg P i - 1 - o) * pv_wt i < P := by
    intro h1 h2
    have := hop _ _ _ (Nat.mod_lt _ (by decide)) (by omega) h2
    have q1 : (pv_dg P i - 1 - o) * pv_wt i ≤ P := pv_sm (by omega) w1
    have q2 : 1 ≤ (pv_dg P i - 1 - o) * pv_wt i := Nat.mul_pos (show 0 < pv_dg P i - 1 - o by omega) w2
    omega
  constructor
  · rintro ⟨h1, h2, h3⟩
    exact ⟨h1, h2, by rw [← h _ (k h1 h2)]; exact h3⟩
  · rintro ⟨h1, h2, h3⟩
    exact ⟨h1, h2, by rw [h _ (k h1 h2)]; exact h3⟩
theorem pv_Fi_step {f : Nat → Nat} {n P : Nat} {r0 r1 : Int32} (hP : P < 2197) (hop : pv_Ob op) (h : pv_Fi op wi f n P) (h0 : r0 ≠ 0 ↔ ∃ i, i < 3 ∧ ∃ o, o < n ∧ pv_mw op wi f 0 P i o)
    (h1 : r1 ≠ 0 ↔ ∃ i, i < 3 ∧ ∃ o, o < n ∧ pv_mw op (upd wi P r0) f 1 P i o) : pv_Fi op (upd (upd wi P r0) (2197 + P) r1) f n (P + 1) := by
  have cg : ∀ s Q, s < 2 → Q ≤ P → ((∃ i, i < 3 ∧ ∃ o, o < n ∧ pv_mw op (upd (upd wi P r0) (2197 + P) r1) f s Q i o) ↔ ∃ i, i < 3 ∧ ∃ o, o < n ∧ pv_mw op wi f s Q i o) := by
    intro s Q hs hQ
    have e : ∀ R, R < Q → upd (upd wi P r0) (2197 + P) r1 ((1 - s) * 2197 + R) = wi ((1 - s) * 2197 + R) := by
      intro R hR
      rcases (show s = 0 ∨ s = 1 by omega) with rfl | rfl
      · rw [pk_un (by omega), pk_un (by omega)]
      · rw [pk_un (by omega), pk_un (by omega)]
    constructor
    · rintro ⟨i, hi, o, ho, w⟩; exact ⟨i, hi, o, ho, (pv_mw_cg hs (by omega) hi hop e).mp w⟩
    · rintro ⟨i, hi, o, ho, w⟩; exact ⟨i, hi, o, ho, (pv_mw_cg hs (by omega) hi hop e).mpr w⟩
  intro Q hQ s hs
  rw [cg s Q hs (by omega)]
  by_cases e : Q = P
  · subst e
    rcases (show s = 0 ∨ s = 1 by omega) with rfl | rfl
    · rw [pk_un (by omega), show 0 * 2197 + Q = Q by omega, pk_us]
      exact h0
    · rw [show 1 * 2197 + Q = 2197 + Q by omega, pk_us, h1]
      have e : ∀ R, R < Q → upd wi Q r0 ((1 - 1) * 2197 + R) = wi ((1 - 1) * 2197 + R) := fun R hR => pk_un (by omega)
      constructor
      · rintro ⟨i, hi, o, ho, w⟩; exact ⟨i, hi, o, ho, (pv_mw_cg hs hP hi hop e).mp w⟩
      · rintro ⟨i, hi, o, ho, w⟩; exact ⟨i, hi, o, ho, (pv_mw_cg hs hP hi hop e).mpr w⟩
  · rw [pk_un (by rcases (show s = 0 ∨ s = 1 by omega) with rfl | rfl <;> omega), pk_un (by rcases (show s = 0 ∨ s = 1 by omega) with rfl | rfl <;> omega)]
    exact h Q (by omega) s hs
theorem pv_vb0 : vp_nar .boolean 0 = 0 := by decide
theorem pv_vb1 : vp_nar .boolean 1 = 1 := by decide
theorem pv_can01 {Q : Prop} {post : Int32 → Prop} (h : ∀ r, (r ≠ 0 ↔ Q) → vp_nar .boolean r = r → post r) : (Q → post 1) ∧ (¬ Q → post 0) :=
  ⟨fun q => h 1 ⟨fun _ => q, fun _ => by decide⟩ pv_vb1, fun q => h 0 ⟨fun z => absurd rfl z, fun z => absurd z q⟩ pv_vb0⟩
theorem yw_fill2 {post : SY → Prop} {f : Nat → Nat} {n Lm : Nat} (hn : n ≤ 12) (hL : Lm < 2197) (hf : ∀ i, i < 3 → f i < 2 ∧ fi i = nI (f i)) (hop : pv_Ob op)
    (h : ∀ wi', pv_Fi op wi' f n (Lm + 1) → post (yc, nI n, yt, op, df, ga, tu, fi, wi', fo, bs)) :
    ∀ d P wi, P + d = Lm + 1 → pv_Fi op wi f n P → wY_fill_2 post (nI Lm) yc (nI n) yt (d + 1) (nI P) op df ga tu fi wi fo bs := by
  intro d
  induction d with
  | zero =>
    intro P wi hP hF
    obtain rfl : P = Lm + 1 := by omega
    exact pk_le 2197 (Lm + 1) (fun _ => h wi hF) (fun _ => pk_lt Lm (Lm + 1) (fun _ => h wi hF) (fun z => absurd z (by omega)))
  | succ d ih =>
    intro P wi hP hF
    refine pk_le 2197 P (fun z => absurd z (by omega)) (fun _ => pk_lt Lm P (fun z => absurd z (by omega)) (fun _ => ?_))
    have C0 := pv_can01 (Q := ∃ i, i < 3 ∧ ∃ o, o < n ∧ pv_mw op wi f 0 P i o) (post := fun r_3 => (vp_in (nI P) 4394 ∧ ∀ a_win_16 : Nat → Int32, a_win_16 = upd wi (nI P).toNatClampNeg (vp_nar .boolean r_3) → wpY_canWin (fun r_17 => (vp_in (2197 + nI P) 4394 ∧ ∀ a_win_30 : Nat → Int32, a_win_30 = upd a_win_16 (2197 + nI P).toNatClampNeg (vp_nar .boolean r_17) → ∀ x2_31 : Int32, x2_31 = nI P + 1 → (wY_fill_2 post (nI Lm) yc (nI n) yt (d + 1) x2_31 op df ga tu fi a_win_30 fo bs))) (yc, nI n, yt, op, df, ga, tu, fi, a_win_16, fo, bs) (nI 1) (nI P)))
    suffices hs : _ from yw_can (s := 0) hn (by omega) (by omega) hf hop (C0 hs).1 (C0 hs).2
    intro r0 q0 v0
    have e1 : (2197 : Int32) + nI P = nI (2197 + P) := nI_add 2197 P
    rw [v0, e1, nI_clamp (show P < 2 ^ 31 by omega), nI_clamp (show 2197 + P < 2 ^ 31 by omega)]
    refine ⟨vp_in_nI (by omega) (by omega), nm_e ?_⟩
    have C1 := pv_can01 (Q := ∃ i, i < 3 ∧ ∃ o, o < n ∧ pv_mw op (upd wi P r0) f 1 P i o) (post := fun r_17 => (vp_in (nI (2197 + P)) 4394 ∧ ∀ a_win_30 : Nat → Int32, a_win_30 = upd (upd wi P r0) (2197 + P) (vp_nar .boolean r_17) → ∀ x2_31 : Int32, x2_31 = nI P + 1 → (wY_fill_2 post (nI Lm) yc (nI n) yt (d + 1) x2_31 op df ga tu fi a_win_30 fo bs)))
    suffices hs : _ from yw_can (s := 1) hn (by omega) (by omega) hf hop (C1 hs).1 (C1 hs).2
    intro r1 q1 v1
    rw [v1]
    exact ⟨vp_in_nI (by omega) (by omega), nm_e (nm_r (nI_1 P) (ih (P + 1) _ (by omega) (pv_Fi_step (by omega) hop hF q0 q1)))⟩
theorem yw_fill {post : SY → Prop} {f : Nat → Nat} {n Lm : Nat} (hn : n ≤ 12) (hL : Lm < 2197) (hf : ∀ i, i < 3 → f i < 2 ∧ fi i = nI (f i)) (hop : pv_Ob op)
    (h : ∀ wi', pv_Fi op wi' f n (Lm + 1) → post (yc, nI n, yt, op, df, ga, tu, fi, wi', fo, bs)) : wpY_fill post (yc, nI n, yt, op, df, ga, tu, fi, wi, fo, bs) (nI Lm) :=
  ⟨Lm + 1 + 1, yw_fill2 hn hL hf hop h (Lm + 1) 0 wi (by omega) (fun P hP => absurd hP (Nat.not_lt_zero P))⟩
/-! the table of wins in codes -/
def pv_P (p : Nat → Nat) : Nat := (p 0 + 1) / 2 + 13 * ((p 1 + 1) / 2) + 169 * ((p 2 + 1) / 2)
def pv_WY (wi : Nat → Int32) (s : Nat) (p : Nat → Nat) : Prop := wi (s * 2197 + pv_P p) ≠ 0
def pv_DY (n : Nat) (f m : Nat → Nat) (i c : Nat) : Prop := c = 0 ∨ ∃ g, g < n ∧ g < m i ∧ c = 2 * g + 1 + f i
theorem pv_DY_le {n : Nat} {f m : Nat → Nat} {i c : Nat} (hf : f i < 2) (h : pv_DY n f m i c) : (c + 1) / 2 ≤ m i ∧ (c + 1) / 2 ≤ n := by
  rcases h with h | ⟨g, h1, h2, h3⟩ <;> omega
theorem pv_P_dg {n : Nat} {f m p : Nat → Nat} (hn : n ≤ 12) (hf : ∀ i, i < 3 → f i < 2) (hp : ∀ i, i < 3 → pv_DY n f m i (p i)) : ∀ i, i < 3 → pv_dg (pv_P p) i = (p i + 1) / 2 := by
  have h0 := (pv_DY_le (hf 0 (by decide)) (hp 0 (by decide))).2
  have h1 := (pv_DY_le (hf 1 (by decide)) (hp 1 (by decide))).2
  have h2 := (pv_DY_le (hf 2 (by decide)) (hp 2 (by decide))).2
  intro i hi
  have h3 : i = 0 ∨ i = 1 ∨ i = 2 := by omega
  unfold pv_P pv_dg
  rcases h3 with rfl | rfl | rfl
  · show ((p 0 + 1) / 2 + 13 * ((p 1 + 1) / 2) + 169 * ((p 2 + 1) / 2)) % 13 = _
    omega
  · show ((p 0 + 1) / 2 + 13 * ((p 1 + 1) / 2) + 169 * ((p 2 + 1) / 2)) / 13 % 13 = _
    omega
  · show ((p 0 + 1) / 2 + 13 * ((p 1 + 1) / 2) + 169 * ((p 2 + 1) / 2)) / 169 = _
    omega
theorem pv_P_fs {p : Nat → Nat} {i c : Nat} (hi : i < 3) (h : (c + 1) / 2 ≤ (p i + 1) / 2) : pv_P (og_fs p i c) = pv_P p - ((p i + 1) / 2 - (c + 1) / 2) * pv_wt i := by
  have h3 : i = 0 ∨ i = 1 ∨ i = 2 := by omega
  unfold pv_P
  rcases h3 with rfl | rfl | rfl
  · rw [og_fs_s, og_fs_n (by decide), og_fs_n (by decide)]
    show _ = _ - _ * 1
    omega
  · rw [og_fs_s, og_fs_n (by decide), og_fs_n (by decide)]
    show _ = _ - _ * 13
    omega
  · rw [og_fs_s, og_fs_n (by decide), og_fs_n (by decide)]
    show _ = _ - _ * 169
    omega
theorem pv_Fi_LR {lf rg : Nat → Int32} {f m : Nat → Nat} {n Lm : Nat} (hn : n ≤ 12) (hL : Lm < 2197) (hf : ∀ i, i < 3 → f i < 2) (hm : m 0 + 13 * m 1 + 169 * m 2 ≤ Lm) (ho : ∀ g, g < 12 → op g = lf g ∧ op (12 + g) = rg g)
    (hl : og_Dn 12 (pv_m lf)) (hr : og_Dn 12 (pv_m rg)) (h : pv_Fi op wi f n (Lm + 1)) : og_LR (pv_DY n f m) (og_o (og_LRO (pv_m lf) (pv_m rg))) (pv_WY wi) := by
  intro p hp s hs
  have q0 := (pv_DY_le (hf 0 (by decide)) (hp 0 (by decide))).1
  have q1 := (pv_DY_le (hf 1 (by decide)) (hp 1 (by decide))).1
  have q2 := (pv_DY_le (hf 2 (by decide)) (hp 2 (by decide))).1
  have hdg := pv_P_dg hn hf hp
  have hPL : pv_P p < Lm + 1 := by unfold pv_P; omega
  have ob : ∀ k g x, k < 2 → g < 12 → (bt (op (k * 12 + g)) x = true ↔ og_LRO (pv_m lf) (pv_m rg) k g x) := by
    intro k g x hk hg
    obtain ⟨o1, o2⟩ := ho g hg
    rcases (show k = 0 ∨ k = 1 by omega) with rfl | rfl
    · rw [show 0 * 12 + g = g by omega, o1]
      exact ⟨fun w => Or.inl ⟨rfl, w⟩, fun w => w.elim (fun v => v.2) (fun v => absurd v.1 (by decide))⟩
    · rw [show 1 * 12 + g = 12 + g by omega, o2]
      exact ⟨fun w => Or.inr ⟨rfl, w⟩, fun w => w.elim (fun v => absurd v.1 (by decide)) (fun v => v.2)⟩
  refine (h (pv_P p) hPL s hs).trans ⟨?_, ?_⟩
  · rintro ⟨i, hi, o, hon, w1, w2, w3⟩
    rw [hdg i hi] at w1 w2 w3
    have hfi := hf i hi
    rcases hp i hi with z | ⟨g, g1, g2, g3⟩
    · exact absurd (by rw [z]) w1
    · have e : (p i + 1) / 2 - 1 = g := by omega
      rw [e] at w2 w3
      have w2 := (ob _ g o (Nat.mod_lt _ (by decide)) (by omega)).mp w2
      have hog : o < g := by
        rcases w2 with ⟨_, v⟩ | ⟨_, v⟩
        · exact hl g o (by omega) v
        · exact hr g o (by omega) v
      refine ⟨i, hi, 2 * o + 1 + f i, ⟨f i, g, o, hfi, g3, rfl, w2⟩, fun z => z ?_⟩
      rw [pv_P_fs hi (by omega), show (p i + 1) / 2 - (2 * o + 1 + f i + 1) / 2 = g - o by omega]
      exact w3
  · rintro ⟨i, hi, c, ⟨t, g, x, ht, e1, rfl, w⟩, hn2⟩
    have hfi := hf i hi
    rcases hp i hi with z | ⟨g', g1, g2, g3⟩
    · omega
    · obtain rfl : t = f i := by omega
      obtain rfl : g' = g := by omega
      have hxg : x < g' := by
        rcases w with ⟨_, v⟩ | ⟨_, v⟩
        · exact hl g' x (by omega) v
        · exact hr g' x (by omega) v
      have e : (p i + 1) / 2 - 1 = g' := by omega
      refine ⟨i, hi, x, by omega, ?_, ?_, ?_⟩
      · rw [hdg i hi]; omega
      · rw [hdg i hi, e]
        exact (ob _ g' x (Nat.mod_lt _ (by decide)) (by omega)).mpr w
      · rw [hdg i hi, e]
        have hn2 := Classical.not_not.mp hn2
        rw [pv_P_fs hi (by omega), show (p i + 1) / 2 - (2 * x + 1 + f i + 1) / 2 = g' - x by omega] at hn2
        exact hn2
end YF
end
section
/-! Y: order, roots, forms, birthdays -/
section YO
variable {yc yn yt : Int32} {op df ga tu fi wi fo bs : Nat → Int32}
variable {lf rg up ro fl fr bi : Nat → Int32}
/-! the wins of b minus a are the order -/
theorem og_cmp {n : Nat} {L R le : Nat → Nat → Prop} {f m : Nat → Nat} {W : Nat → (Nat → Nat) → Prop} (hn : n ≤ 12) (hO : og_Ord n L R le) (dL : og_Dn n L) (dR : og_Dn n R)
    (f0 : f 0 = 0) (f1 : f 1 = 1) (m0 : m 0 = 12) (m1 : m 1 = 12) (h : og_LR (pv_DY n f m) (og_o (og_LRO L R)) W) :
    ∀ k a b, a + b < k → a < n → b < n → (W 1 (pv_p3 0 (2 * a + 2) (2 * b + 1)) ↔ ¬ le a b) ∧ (W 0 (pv_p3 0 (2 * a + 2) (2 * b + 1)) ↔ ¬ le b a) := by
  intro k
  induction k with
  | zero => intro a b h; omega
  | succ k ih =>
    intro a b hk ha hb
    have hp : ∀ i, i < 3 → pv_DY n f m i (pv_p3 0 (2 * a + 2) (2 * b + 1) i) := by
      intro i hi
      have h3 : i = 0 ∨ i = 1 ∨ i = 2 := by omega
      rcases h3 with rfl | rfl | rfl
      · exact Or.inr ⟨b, hb, by omega, by rw [f0]; rfl⟩
      · exact Or.inr ⟨a, ha, by omega, by rw [f1]; rfl⟩
      · exact Or.inl rfl
    have e0 : ∀ x, og_fs (pv_p3 0 (2 * a + 2) (2 * b + 1)) 0 (2 * x + 1) = pv_p3 0 (2 * a + 2) (2 * x + 1) := by
      intro x
      funext i
      unfold og_fs pv_p3
      by_cases z : i = 0
      · rw [if_pos z, if_pos z]
      · rw [if_neg z, if_neg z, if_neg z]
    have e1 : ∀ x, og_fs (pv_p3 0 (2 * a + 2) (2 * b + 1)) 1 (2 * x + 2) = pv_p3 0 (2 * x + 2) (2 * b + 1) := by
      intro x
      funext i
      unfold og_fs pv_p3
      by_cases z : i = 1
      · rw [if_pos z, if_neg (by omega), if_pos z]
      · rw [if_neg z, if_neg z, if_neg z]
    have MV : ∀ s, s < 2 → (W s (pv_p3 0 (2 * a + 2) (2 * b + 1)) ↔ (∃ x, og_LRO L R s b x ∧ ¬ W (1 - s) (pv_p3 0 (2 * a + 2) (2 * x + 1))) ∨ (∃ x, og_LRO L R (1 - s) a x ∧ ¬ W (1 - s) (pv_p3 0 (2 * x + 2) (2 * b + 1)))) := by
      intro s hs
      refine (h _ hp s hs).trans ⟨?_, ?_⟩
      · rintro ⟨i, hi, c, ⟨t, g, x, ht, e, rfl, w⟩, hno⟩
        have h3 : i = 0 ∨ i = 1 ∨ i = 2 := by omega
        rcases h3 with rfl | rfl | rfl
        · have e : 2 * b + 1 = 2 * g + 1 + t := e
          obtain rfl : t = 0 := by omega
          obtain rfl : g = b := by omega
          rw [show (s + 0) % 2 = s by omega] at w
          exact Or.inl ⟨x, w, by rw [← e0 x]; exact hno⟩
        · have e : 2 * a + 2 = 2 * g + 1 + t := e
          obtain rfl : t = 1 := by omega
          obtain rfl : g = a := by omega
          rw [show (s + 1) % 2 = 1 - s by omega] at w
          exact Or.inr ⟨x, w, by rw [← e1 x]; exact hno⟩
        · have e : 0 = 2 * g + 1 + t := e
          omega
      · rintro (⟨x, w, hno⟩ | ⟨x, w, hno⟩)
        · refine ⟨0, by omega, 2 * x + 1, ⟨0, b, x, by omega, rfl, rfl, ?_⟩, by rw [e0]; exact hno⟩
          rw [show (s + 0) % 2 = s by omega]; exact w
        · refine ⟨1, by omega, 2 * x + 2, ⟨1, a, x, by omega, rfl, rfl, ?_⟩, by rw [e1]; exact hno⟩
          rw [show (s + 1) % 2 = 1 - s by omega]; exact w
    have l0 : ∀ g x, og_LRO L R 0 g x ↔ L g x := fun g x => ⟨fun w => w.elim (fun v => v.2) (fun v => absurd v.1 (by decide)), fun w => Or.inl ⟨rfl, w⟩⟩
    have l1 : ∀ g x, og_LRO L R 1 g x ↔ R g x := fun g x => ⟨fun w => w.elim (fun v => absurd v.1 (by decide)) (fun v => v.2), fun w => Or.inr ⟨rfl, w⟩⟩
    constructor
    · rw [MV 1 (by omega), hO a b ha hb]
      constructor
      · rintro (⟨x, w, hno⟩ | ⟨x, w, hno⟩) ⟨c1, c2⟩
        · have w := (l1 b x).mp w
          have hx := dR b x hb w
          exact hno ((ih a x (by omega) ha (by omega)).2.mpr (c2 x w))
        · have w := (l0 a x).mp w
          have hx := dL a x ha w
          exact hno ((ih x b (by omega) (by omega) hb).2.mpr (c1 x w))
      · intro hno
        apply Classical.byContradiction
        intro hall
        refine hno ⟨fun x w l => hall (Or.inr ⟨x, (l0 a x).mpr w, fun z => ?_⟩), fun x w l => hall (Or.inl ⟨x, (l1 b x).mpr w, fun z => ?_⟩)⟩
        · have hx := dL a x ha w
          exact (ih x b (by omega) (by omega) hb).2.mp z l
        · have hx := dR b x hb w
          exact (ih a x (by omega) ha (by omega)).2.mp z l
    · rw [MV 0 (by omega), hO b a hb ha]
      constructor
      · rintro (⟨x, w, hno⟩ | ⟨x, w, hno⟩) ⟨c1, c2⟩
        · have w := (l0 b x).mp w
          have hx := dL b x hb w
          exact hno ((ih a x (by omega) ha (by omega)).1.mpr (c1 x w))
        · have w := (l1 a x).mp w
          have hx := dR a x ha w
          exact hno ((ih x b (by omega) (by omega) hb).1.mpr (c2 x w))
      · intro hno
        apply Classical.byContradiction
        intro hall
        refine hno ⟨fun x w l => hall (Or.inl ⟨x, (l0 b x).mpr w, fun z => ?_⟩), fun x w l => hall (Or.inr ⟨x, (l1 a x).mpr w, fun z => ?_⟩)⟩
        · have hx := dL b x hb w
          exact (ih a x (by omega) ha (by omega)).1.mp z l
        · have hx := dR a x ha w
          exact (ih x b (by omega) (by omega) hb).1.mp z l
def pv_CA (n : Nat) (up wi : Nat → Int32) : Prop := ∀ a b, a < n → b < n → (wi (2197 + (b + 1) + 13 * (a + 1)) = 0 ↔ pv_m up a b)
theorem pv_ob (ho : ∀ g, g < 12 → op g = lf g ∧ op (12 + g) = rg g) (hl : og_Dn 12 (pv_m lf)) (hr : og_Dn 12 (pv_m rg)) : pv_Ob op := by
  intro s g x hs hg hb
  obtain ⟨o1, o2⟩ := ho g hg
  rcases (show s = 0 ∨ s = 1 by omega) with rfl | rfl
  · rw [show 0 * 12 + g = g by omega, o1] at hb; exact hl g x hg hb
  · rw [show 1 * 12 + g = 12 + g by omega, o2] at hb; exact hr g x hg hb
theorem yw_cmpAll {post : SY → Prop} {n : Nat} (hn : n ≤ 12) (ho : ∀ g, g < 12 → op g = lf g ∧ op (12 + g) = rg g) (hl : og_Dn 12 (pv_m lf)) (hr : og_Dn 12 (pv_m rg)) (hO : og_Ord n (pv_m lf) (pv_m rg) (pv_m up))
    (h : ∀ fi' wi', pv_CA n up wi' → post (yc, nI n, yt, op, df, ga, tu, fi', wi', fo, bs)) : wpY_compareAll post (yc, nI n, yt, op, df, ga, tu, fi, wi, fo, bs) := by
  unfold wpY_compareAll
  dsimp only
  rw [pv_vb0, pv_vb1]
  refine nm_e (nm_e (nm_e ?_))
  refine yw_fill (f := fun i => if i = 1 then 1 else 0) (Lm := 168) hn (by omega) (fun i hi => ?_) (pv_ob ho hl hr) (fun wi' hF => h _ wi' ?_)
  · have h3 : i = 0 ∨ i = 1 ∨ i = 2 := by omega
    rcases h3 with rfl | rfl | rfl
    · exact ⟨by decide, rfl⟩
    · exact ⟨by decide, rfl⟩
    · exact ⟨by decide, rfl⟩
  · have LR := pv_Fi_LR (f := fun i => if i = 1 then 1 else 0) (m := fun i => if i = 2 then 0 else 12) hn (by omega) (fun i hi => by show (if i = 1 then 1 else 0) < 2; split <;> omega) (by decide) ho hl hr hF
    intro a b ha hb
    have K := (og_cmp hn hO (fun a x ha => hl a x (by omega)) (fun a x ha => hr a x (by omega)) rfl rfl rfl rfl LR _ a b (Nat.lt_succ_self _) ha hb).1
    have e : 1 * 2197 + pv_P (pv_p3 0 (2 * a + 2) (2 * b + 1)) = 2197 + (b + 1) + 13 * (a + 1) := by
      show 1 * 2197 + ((2 * b + 1 + 1) / 2 + 13 * ((2 * a + 2 + 1) / 2) + 169 * ((0 + 1) / 2)) = _
      omega
    unfold pv_WY at K
    rw [e] at K
    exact ⟨fun z => Classical.byContradiction fun w => K.mpr w z, fun z => Classical.byContradiction fun w => K.mp w z⟩
theorem yw_leqP {post : Int32 → Prop} {n a b : Nat} (hn : n ≤ 12) (ha : a < n) (hb : b < n) (hC : pv_CA n up wi) (h1 : pv_m up a b → post 1) (h0 : ¬ pv_m up a b → post 0) : wpY_leq post (yc, yn, yt, op, df, ga, tu, fi, wi, fo, bs) (nI a) (nI b) := by
  have e : (2197 + (nI b + 1)) + 13 * (nI a + 1) = nI (2197 + (b + 1) + 13 * (a + 1)) := by
    rw [nI_1, nI_1, show (2197 : Int32) + nI (b + 1) = nI (2197 + (b + 1)) from nI_add 2197 _, show (13 : Int32) * nI (a + 1) = nI (13 * (a + 1)) from pk_mul 13 _, nI_add]
  unfold wpY_leq
  dsimp only
  rw [e, nI_clamp (by omega)]
  exact ⟨vp_in_nI (by omega) (by omega), br_c (fun z => h1 ((hC a b ha hb).mp z)) (fun z => h0 fun w => z ((hC a b ha hb).mpr w))⟩
theorem yw_leq {A B : Prop} {n a b : Nat} (hn : n ≤ 12) (ha : a < n) (hb : b < n) (hC : pv_CA n up wi) (h0 : ¬ pv_m up a b → A) (h1 : pv_m up a b → B) : wpY_leq (fun r => (r = 0 → A) ∧ (¬ r = 0 → B)) (yc, yn, yt, op, df, ga, tu, fi, wi, fo, bs) (nI a) (nI b) :=
  yw_leqP hn ha hb hC (fun z => br_f (by decide) (h1 z)) (fun z => br_t rfl (h0 z))
theorem yw_root2 {post : Int32 → Prop} {n a : Nat} (hn : n ≤ 12) (ha : a < n) (hC : pv_CA n up wi) (hR : og_Rt n (pv_m up) (pv_rt ro)) (h : post (nI (pv_rt ro a))) :
    ∀ d x, x + d = a → x ≤ pv_rt ro a → wY_rootOf_2 post (nI a) yc yn yt op df ga tu fi wi fo bs (d + 1) (nI x) := by
  obtain ⟨r1, r2, r3, r4⟩ := hR a ha
  intro d
  induction d with
  | zero =>
    intro x hx hl
    obtain rfl : x = a := by omega
    have e : pv_rt ro x = x := by omega
    rw [e] at h
    exact pk_le x x (fun _ => h) (fun z => absurd z (by omega))
  | succ d ih =>
    intro x hx hl
    have next : ¬ (pv_m up x a ∧ pv_m up a x) → x + 1 ≤ pv_rt ro a := by
      intro w
      have : x ≠ pv_rt ro a := fun e => w (e ▸ ⟨r3, r2⟩)
      omega
    have here : pv_m up x a → pv_m up a x → post (nI x) := by
      intro w1 w2
      have : ¬ x < pv_rt ro a := fun z => r4 x z ⟨w1, w2⟩
      have e : x = pv_rt ro a := by omega
      rw [e]
      exact h
    exact pk_le a x (fun z => absurd z (by omega)) (fun _ => yw_leq hn (by omega) ha hC (fun z => nm_r (nI_1 x) (ih (x + 1) (by omega) (next fun w => z w.1))) (fun z1 => yw_leq hn ha (by omega) hC (fun z => nm_r (nI_1 x) (ih (x + 1) (by omega) (next fun w => z w.2))) (fun z2 => here z1 z2)))
theorem yw_root {post : Int32 → Prop} {n a : Nat} (hn : n ≤ 12) (ha : a < n) (hC : pv_CA n up wi) (hR : og_Rt n (pv_m up) (pv_rt ro)) (h : post (nI (pv_rt ro a))) : wpY_rootOf post (yc, yn, yt, op, df, ga, tu, fi, wi, fo, bs) (nI a) :=
  ⟨a + 1, yw_root2 hn ha hC hR h a 0 (by omega) (Nat.zero_le _)⟩
def pv_bl (up : Nat → Int32) (s : Nat) : Nat → Nat → Prop := fun u v => (s = 0 ∧ pv_m up u v) ∨ (s = 1 ∧ pv_m up v u)
theorem pv_bl0 {u v : Nat} : pv_bl up 0 u v ↔ pv_m up u v := ⟨fun w => w.elim (fun v => v.2) (fun v => absurd v.1 (by decide)), fun w => Or.inl ⟨rfl, w⟩⟩
theorem pv_bl1 {u v : Nat} : pv_bl up 1 u v ↔ pv_m up v u := ⟨fun w => w.elim (fun v => absurd v.1 (by decide)) (fun v => v.2), fun w => Or.inr ⟨rfl, w⟩⟩
theorem yw_below {A B : Prop} {n s a b : Nat} (hn : n ≤ 12) (hs : s < 2) (ha : a < n) (hb : b < n) (hC : pv_CA n up wi) (h0 : ¬ pv_bl up s a b → A) (h1 : pv_bl up s a b → B) : wpY_below (fun r => (r = 0 → A) ∧ (¬ r = 0 → B)) (yc, yn, yt, op, df, ga, tu, fi, wi, fo, bs) (nI s) (nI a) (nI b) := by
  rcases (show s = 0 ∨ s = 1 by omega) with rfl | rfl
  · exact br_t rfl (yw_leqP hn ha hb hC (fun z => ⟨rfl, br_f (by decide) (h1 (pv_bl0.mpr z))⟩) (fun z => ⟨rfl, br_t rfl (h0 fun w => z (pv_bl0.mp w))⟩))
  · exact br_f (by decide) (yw_leqP hn hb ha hC (fun z => ⟨rfl, br_f (by decide) (h1 (pv_bl1.mpr z))⟩) (fun z => ⟨rfl, br_t rfl (h0 fun w => z (pv_bl1.mp w))⟩))
theorem yw_rev3 {post : Int32 → Prop} {n s g x : Nat} (hn : n ≤ 12) (hs : s < 2) (hg : g < n) (hx : x < n) (hC : pv_CA n up wi)
    (h1 : (∃ y, y < x ∧ bt (fo ((1 - s) * 12 + x)) y = true ∧ pv_bl up s y g) → post 1) (h0 : (∀ y, y < x → bt (fo ((1 - s) * 12 + x)) y = true → ¬ pv_bl up s y g) → post 0) :
    ∀ d y, y + d = x → (∀ j, j < y → bt (fo ((1 - s) * 12 + x)) j = true → ¬ pv_bl up s j g) → wY_reversible_3 post (nI s) (nI g) (nI x) yc yn yt op df ga tu fi wi fo bs (d + 1) (nI y) := by
  have e : (1 - nI s) * 12 + nI x = nI ((1 - s) * 12 + x) := by
    rw [show (1 : Int32) - nI s = nI (1 - s) from pk_sub (a := 1) (by omega), show nI (1 - s) * 12 = nI ((1 - s) * 12) from pk_mul _ 12, nI_add]
  intro d
  induction d with
  | zero =>
    intro y hy hj
    exact pk_le x y (fun _ => h0 (fun j hjx => hj j (by omega))) (fun z => absurd z (by omega))
  | succ d ih =>
    intro y hy hj
    have next : (bt (fo ((1 - s) * 12 + x)) y = true → ¬ pv_bl up s y g) → ∀ j, j < y + 1 → bt (fo ((1 - s) * 12 + x)) j = true → ¬ pv_bl up s j g := by
      intro w j hjy
      by_cases e : j = y
      · subst e; exact w
      · exact hj j (by omega)
    refine pk_le x y (fun z => absurd z (by omega)) (fun _ => ?_)
    rw [e, nI_clamp (by omega)]
    refine ⟨vp_in_nI (by omega) (by omega), yw_has (by omega) (fun z => nm_r (nI_1 y) (ih (y + 1) (by omega) (next fun w => ?_))) (fun z => yw_below hn hs (by omega) hg hC (fun w => nm_r (nI_1 y) (ih (y + 1) (by omega) (next fun _ => w))) (fun w => h1 ⟨y, by omega, z, w⟩))⟩
    rw [z] at w
    exact absurd w (by decide)
theorem yw_rev {A B : Prop} {n s g x : Nat} (hn : n ≤ 12) (hs : s < 2) (hg : g < n) (hx : x < n) (hC : pv_CA n up wi)
    (h0 : (∀ y, y < x → bt (fo ((1 - s) * 12 + x)) y = true → ¬ pv_bl up s y g) → A) (h1 : (∃ y, y < x ∧ bt (fo ((1 - s) * 12 + x)) y = true ∧ pv_bl up s y g) → B) : wpY_reversible (fun r => (r = 0 → A) ∧ (¬ r = 0 → B)) (yc, yn, yt, op, df, ga, tu, fi, wi, fo, bs) (nI s) (nI g) (nI x) :=
  ⟨x + 1, yw_rev3 hn hs hg hx hC (fun z => br_f (by decide) (h1 z)) (fun z => br_t rfl (h0 z)) x 0 (by omega) (fun j hj => absurd hj (Nat.not_lt_zero j))⟩
def pv_cd (up ro fo : Nat → Int32) (s g x : Nat) : Prop := pv_rt ro x = x ∧ ¬ pv_bl up s g x ∧ ∀ y, y < x → bt (fo ((1 - s) * 12 + x)) y = true → ¬ pv_bl up s y g
theorem yw_cand5 {post : Int32 → Prop} {n s g : Nat} (hn : n ≤ 12) (hs : s < 2) (hg : g < n) (hC : pv_CA n up wi) (hR : og_Rt n (pv_m up) (pv_rt ro)) (h : ∀ r, (∀ x, bt r x = true ↔ x < g ∧ pv_cd up ro fo s g x) → post r) :
    ∀ d x r, x + d = g → (∀ y, bt r y = true ↔ y < x ∧ pv_cd up ro fo s g y) → wY_candidates_5 post (nI s) (nI g) yc yn yt op df ga tu fi wi fo bs (d + 1) r (nI x) := by
  intro d
  induction d with
  | zero =>
    intro x r hx hr
    obtain rfl : x = g := by omega
    exact pk_le x x (fun _ => h r hr) (fun z => absurd z (by omega))
  | succ d ih =>
    intro x r hx hr
    have no : ¬ pv_cd up ro fo s g x → ∀ y, bt r y = true ↔ y < x + 1 ∧ pv_cd up ro fo s g y := by
      intro w y
      refine (hr y).trans ⟨fun z => ⟨by omega, z.2⟩, fun z => ⟨?_, z.2⟩⟩
      by_cases e : y = x
      · subst e; exact absurd z.2 w
      · omega
    have yes : pv_cd up ro fo s g x → ∀ y, bt (r ||| ((1 : Int32) <<< (nI x &&& 31))) y = true ↔ y < x + 1 ∧ pv_cd up ro fo s g y := by
      intro w y
      rw [bb_setT (by omega), hr y]
      constructor
      · rintro (⟨z1, z2⟩ | e)
        · exact ⟨by omega, z2⟩
        · subst e; exact ⟨by omega, w⟩
      · rintro ⟨z1, z2⟩
        by_cases e : y = x
        · exact Or.inr e
        · exact Or.inl ⟨by omega, z2⟩
    have rx := (hR x (by omega)).1
    refine pk_le g x (fun z => absurd z (by omega)) (fun _ => yw_root hn (by omega) hC hR (pk_eq (pv_rt ro x) x (fun e => ?_) (fun e => nm_r (nI_1 x) (ih (x + 1) r (by omega) (no fun w => e w.1)))))
    exact yw_below hn hs hg (by omega) hC (fun z => yw_rev hn hs hg (by omega) hC (fun w => nm_e (nm_r (nI_1 x) (ih (x + 1) _ (by omega) (yes ⟨e, z, w⟩)))) (fun w => nm_r (nI_1 x) (ih (x + 1) r (by omega) (no fun v => w.elim fun y q => v.2.2 y q.1 q.2.1 q.2.2)))) (fun z => nm_r (nI_1 x) (ih (x + 1) r (by omega) (no fun w => w.2.1 z)))
theorem yw_cand {post : Int32 → Prop} {n s g : Nat} (hn : n ≤ 12) (hs : s < 2) (hg : g < n) (hC : pv_CA n up wi) (hR : og_Rt n (pv_m up) (pv_rt ro)) (h : ∀ r, (∀ x, bt r x = true ↔ x < g ∧ pv_cd up ro fo s g x) → post r) :
    wpY_candidates post (yc, yn, yt, op, df, ga, tu, fi, wi, fo, bs) (nI s) (nI g) :=
  ⟨g + 1, yw_cand5 hn hs hg hC hR h g 0 0 (by omega) (fun y => ⟨fun z => absurd z (bb_0F y), fun z => absurd z.1 (Nat.not_lt_zero y)⟩)⟩
/-! undominated -/
def pv_ud (up : Nat → Int32) (s : Nat) (a : Int32) (x k : Nat) : Prop := ∀ z, z < k → bt a z = true → pv_bl up s x z → z = x
theorem yw_und17 {post : Int32 → Prop} {J : Int32 → Int32 → Prop} {n s x : Nat} {a r0 : Int32} (hn : n ≤ 12) (hs : s < 2) (hx : x < n) (hC : pv_CA n up wi)
    (h : ∀ r, (∀ y, bt r y = true ↔ bt r0 y = true ∧ ¬ (y = x ∧ bt a x = true ∧ ¬ pv_ud up s a x n)) → J r (nI (x + 1))) :
    ∀ d z r, z + d = n → (∀ y, bt r y = true ↔ bt r0 y = true ∧ ¬ (y = x ∧ bt a x = true ∧ ¬ pv_ud up s a x z)) → wY_undominated_17 post J (nI s) a (nI x) yc (nI n) yt op df ga tu fi wi fo bs (d + 1) r (nI z) := by
  intro d
  induction d with
  | zero =>
    intro z r hz hr
    obtain rfl : z = n := by omega
    exact pk_le z z (fun _ => nm_r (nI_1 x) (h r hr)) (fun w => absurd w (by omega))
  | succ d ih =>
    intro z r hz hr
    have same : ¬ (x ≠ z ∧ bt a x = true ∧ bt a z = true ∧ pv_bl up s x z) → ∀ y, bt r y = true ↔ bt r0 y = true ∧ ¬ (y = x ∧ bt a x = true ∧ ¬ pv_ud up s a x (z + 1)) := by
      intro w y
      rw [hr y]
      have e : (y = x ∧ bt a x = true ∧ ¬ pv_ud up s a x z) ↔ (y = x ∧ bt a x = true ∧ ¬ pv_ud up s a x (z + 1)) := by
        refine ⟨fun q => ⟨q.1, q.2.1, fun u => q.2.2 fun v hv => u v (by omega)⟩, fun q => ⟨q.1, q.2.1, fun u => q.2.2 fun v hv h1 h2 => ?_⟩⟩
        by_cases e : v = z
        · subst e
          apply Classical.byContradiction
          intro ne
          exact w ⟨fun k => ne k.symm, q.2.1, h1, h2⟩
        · exact u v (by omega) h1 h2
      rw [e]
    refine pk_le n z (fun w => absurd w (by omega)) (fun _ => pk_eq x z (fun e => nm_r (nI_1 z) (ih (z + 1) r (by omega) (same fun w => w.1 e))) (fun ne => ?_))
    refine yw_has (by omega) (fun b1 => nm_r (nI_1 z) (ih (z + 1) r (by omega) (same fun w => ?_))) (fun b1 => yw_has (by omega) (fun b2 => nm_r (nI_1 z) (ih (z + 1) r (by omega) (same fun w => ?_))) (fun b2 => yw_below hn hs hx (by omega) hC (fun l => nm_r (nI_1 z) (ih (z + 1) r (by omega) (same fun w => l w.2.2.2))) (fun l => nm_e (nm_r (nI_1 z) (ih (z + 1) _ (by omega) ?_)))))
    · have := w.2.1; rw [b1] at this; exact absurd this (by decide)
    · have := w.2.2.1; rw [b2] at this; exact absurd this (by decide)
    · intro y
      rw [bb_delT (by omega), hr y]
      constructor
      · rintro ⟨⟨q1, q2⟩, q3⟩
        exact ⟨q1, fun w => q3 w.1⟩
      · rintro ⟨q1, q2⟩
        have hne : y ≠ x := fun e => q2 ⟨e, b1, fun u => ne (u z (by omega) b2 l).symm⟩
        exact ⟨⟨q1, fun w => hne w.1⟩, hne⟩
theorem yw_und5 {post : Int32 → Prop} {n s : Nat} {a : Int32} (hn : n ≤ 12) (hs : s < 2) (ha : ∀ x, bt a x = true → x < n) (hC : pv_CA n up wi)
    (h : ∀ r, (∀ x, bt r x = true ↔ og_M (pv_bl up s) (fun z => bt a z = true) x) → post r) :
    ∀ d x r, x + d = n → (∀ y, bt r y = true ↔ bt a y = true ∧ (y < x → pv_ud up s a y n)) → wY_undominated_5 post (nI s) a yc (nI n) yt op df ga tu fi wi fo bs (d + 1) r (nI x) := by
  intro d
  induction d with
  | zero =>
    intro x r hx hr
    obtain rfl : x = n := by omega
    refine pk_le x x (fun _ => h r (fun y => (hr y).trans ⟨fun q => ⟨q.1, fun z hz l => q.2 (ha y q.1) z (ha z hz) hz l⟩, fun q => ⟨q.1, fun _ z _ hz l => q.2 z hz l⟩⟩)) (fun w => absurd w (by omega))
  | succ d ih =>
    intro x r hx hr
    refine pk_le n x (fun w => absurd w (by omega)) (fun _ => ⟨n + 1, yw_und17 (r0 := r) hn hs (by omega) hC (fun r' hr' => ih (x + 1) r' (by omega) (fun y => ?_)) n 0 r (by omega) (fun y => ⟨fun q => ⟨q, fun w => w.2.2 fun z hz => absurd hz (Nat.not_lt_zero z)⟩, fun q => q.1⟩)⟩)
    rw [hr' y, hr y]
    constructor
    · rintro ⟨⟨q1, q2⟩, q3⟩
      refine ⟨q1, fun hy => ?_⟩
      by_cases e : y = x
      · subst e
        exact Classical.byContradiction fun w => q3 ⟨rfl, q1, w⟩
      · exact q2 (by omega)
    · rintro ⟨q1, q2⟩
      refine ⟨⟨q1, fun hy => q2 (by omega)⟩, fun w => w.2.2 ?_⟩
      have := q2 (by omega)
      rw [w.1] at this
      exact this
theorem yw_und {post : Int32 → Prop} {n s : Nat} {a : Int32} (hn : n ≤ 12) (hs : s < 2) (ha : ∀ x, bt a x = true → x < n) (hC : pv_CA n up wi)
    (h : ∀ r, (∀ x, bt r x = true ↔ og_M (pv_bl up s) (fun z => bt a z = true) x) → post r) : wpY_undominated post (yc, nI n, yt, op, df, ga, tu, fi, wi, fo, bs) (nI s) a :=
  ⟨n + 1, yw_und5 hn hs ha hC h n 0 a (by omega) (fun y => ⟨fun q => ⟨q, fun w => absurd w (Nat.not_lt_zero y)⟩, fun q => q.1⟩)⟩
end YO
end
section
/-! Y: forms and birthdays; compare, root, form, birthday -/
section YG
variable {yc yn yt : Int32} {op df ga tu fi wi fo bs : Nat → Int32}
variable {lf rg up dn ro fl fr bi : Nat → Int32}
theorem og_M_eq {le le' : Nat → Nat → Prop} {S S' : Nat → Prop} {x : Nat} (hle : ∀ a b, le a b ↔ le' a b) (hS : ∀ x, S x ↔ S' x) : og_M le S x ↔ og_M le' S' x := by
  unfold og_M
  rw [hS x]
  exact ⟨fun q => ⟨q.1, fun z hz l => q.2 z ((hS z).mpr hz) ((hle x z).mpr l)⟩, fun q => ⟨q.1, fun z hz l => q.2 z ((hS z).mp hz) ((hle x z).mp l)⟩⟩
theorem pv_fL {n g : Nat} {a r : Int32} (hg : g < n) (hrg : pv_rt ro g = g) (hF : og_F n (pv_m up) (pv_rt ro) (pv_m fl) (pv_m fr)) (dG : og_Dn n (pv_m fr)) (hj : ∀ j, j < g → pv_rt ro j = j → fo j = fl j ∧ fo (12 + j) = fr j)
    (h1 : ∀ x, bt a x = true ↔ x < g ∧ pv_cd up ro fo 0 g x) (h2 : ∀ x, bt r x = true ↔ og_M (pv_bl up 0) (fun z => bt a z = true) x) : r = fl g := by
  apply bb_eq
  intro x
  refine (h2 x).trans (Iff.trans (og_M_eq (fun _ _ => pv_bl0) (fun x => ?_)) (hF g hg hrg x).1.symm)
  refine (h1 x).trans ⟨?_, ?_⟩
  · rintro ⟨q1, q2, q3, q4⟩
    refine ⟨q1, q2, fun w => q3 (pv_bl0.mpr w), fun y hy w => ?_⟩
    have := dG x y (by omega) hy
    refine q4 y this ?_ (pv_bl0.mpr w)
    show bt (fo (12 + x)) y = true
    rw [(hj x q1 q2).2]
    exact hy
  · rintro ⟨q1, q2, q3, q4⟩
    refine ⟨q1, q2, fun w => q3 (pv_bl0.mp w), fun y hy w l => q4 y ?_ (pv_bl0.mp l)⟩
    have w : bt (fo (12 + x)) y = true := w
    rw [(hj x q1 q2).2] at w
    exact w
theorem pv_fR {n g : Nat} {a r : Int32} (hg : g < n) (hrg : pv_rt ro g = g) (hF : og_F n (pv_m up) (pv_rt ro) (pv_m fl) (pv_m fr)) (dF : og_Dn n (pv_m fl)) (hj : ∀ j, j < g → pv_rt ro j = j → fo j = fl j ∧ fo (12 + j) = fr j)
    (h1 : ∀ x, bt a x = true ↔ x < g ∧ pv_cd up ro fo 1 g x) (h2 : ∀ x, bt r x = true ↔ og_M (pv_bl up 1) (fun z => bt a z = true) x) : r = fr g := by
  apply bb_eq
  intro x
  refine (h2 x).trans (Iff.trans (og_M_eq (le' := fun a b => pv_m up b a) (fun _ _ => pv_bl1) (fun x => ?_)) (hF g hg hrg x).2.symm)
  refine (h1 x).trans ⟨?_, ?_⟩
  · rintro ⟨q1, q2, q3, q4⟩
    refine ⟨q1, q2, fun w => q3 (pv_bl1.mpr w), fun y hy w => ?_⟩
    have := dF x y (by omega) hy
    refine q4 y this ?_ (pv_bl1.mpr w)
    rw [show (1 - 1) * 12 + x = x by omega, (hj x q1 q2).1]
    exact hy
  · rintro ⟨q1, q2, q3, q4⟩
    refine ⟨q1, q2, fun w => q3 (pv_bl1.mp w), fun y hy w l => q4 y ?_ (pv_bl1.mp l)⟩
    rw [show (1 - 1) * 12 + x = x by omega, (hj x q1 q2).1] at w
    exact w
theorem yw_mf27 {post : SY → Prop} {n : Nat} (hn : n ≤ 12) (hC : pv_CA n up wi) (hR : og_Rt n (pv_m up) (pv_rt ro)) (hF : og_F n (pv_m up) (pv_rt ro) (pv_m fl) (pv_m fr)) (dF : og_Dn n (pv_m fl)) (dG : og_Dn n (pv_m fr))
    (h : ∀ fo', (∀ j, j < n → pv_rt ro j = j → fo' j = fl j ∧ fo' (12 + j) = fr j) → post (yc, nI n, yt, op, df, ga, tu, fi, wi, fo', bs)) :
    ∀ d g fo, g + d = n → (∀ j, j < g → pv_rt ro j = j → fo j = fl j ∧ fo (12 + j) = fr j) → wY_makeForms_27 post yc (nI n) yt (d + 1) (nI g) op df ga tu fi wi fo bs := by
  intro d
  induction d with
  | zero =>
    intro g fo hg hj
    obtain rfl : g = n := by omega
    exact pk_le g g (fun _ => h fo hj) (fun z => absurd z (by omega))
  | succ d ih =>
    intro g fo hg hj
    have rg1 := (hR g (by omega)).1
    refine pk_le n g (fun z => absurd z (by omega)) (fun _ => yw_root hn (by omega) hC hR (pk_eq (pv_rt ro g) g (fun e => ?_) (fun e => nm_r (nI_1 g) (ih (g + 1) fo (by omega) (fun j hjg hrj => ?_)))))
    · refine yw_cand (s := 0) hn (by omega) (by omega) hC hR (fun a ha => yw_cand (s := 1) hn (by omega) (by omega) hC hR (fun b hb => ?_))
      refine yw_und (s := 0) hn (by omega) (fun x hx => by have := ((ha x).mp hx).1; omega) hC (fun r1 hr1 => ⟨vp_in_nI (by omega) (by omega), ?_⟩)
      have e1 : (12 : Int32) + nI g = nI (12 + g) := nI_add 12 g
      rw [e1, nI_clamp (show g < 2 ^ 31 by omega), nI_clamp (show 12 + g < 2 ^ 31 by omega)]
      refine nm_e (yw_und (s := 1) hn (by omega) (fun x hx => by have := ((hb x).mp hx).1; omega) hC (fun r2 hr2 => ⟨vp_in_nI (by omega) (by omega), nm_e (nm_r (nI_1 g) (ih (g + 1) _ (by omega) (fun j hjg hrj => ?_)))⟩))
      have k1 := pv_fL (by omega) e hF dG hj ha hr1
      have k2 := pv_fR (by omega) e hF dF hj hb hr2
      by_cases z : j = g
      · subst z
        rw [pk_un (by omega), pk_us, pk_us]
        exact ⟨k1, k2⟩
      · rw [pk_un (by omega), pk_un z, pk_un (by omega), pk_un (by omega)]
        exact hj j (by omega) hrj
    · by_cases z : j = g
      · subst z; exact absurd hrj e
      · exact hj j (by omega) hrj
theorem yw_mf6 {post : SY → Prop} {n : Nat} (h : ∀ fo', ∃ k, wY_makeForms_27 post yc (nI n) yt k 0 op df ga tu fi wi fo' bs) :
    ∀ d g fo, g + d = 24 → wY_makeForms_6 post yc (nI n) yt (d + 1) (nI g) op df ga tu fi wi fo bs := by
  intro d
  induction d with
  | zero =>
    intro g fo hg
    exact pk_le 24 g (fun _ => h fo) (fun z => absurd z (by omega))
  | succ d ih =>
    intro g fo hg
    exact pk_le 24 g (fun z => absurd z (by omega)) (fun _ => ⟨vp_in_nI (by omega) (by omega), nm_e (nm_r (nI_1 g) (ih (g + 1) _ (by omega)))⟩)
theorem yw_mf {post : SY → Prop} {n : Nat} (hn : n ≤ 12) (ho : ∀ g, g < 12 → op g = lf g ∧ op (12 + g) = rg g) (hG : pv_G n lf rg up dn ro fl fr bi)
    (h : ∀ fi' wi' fo', pv_CA n up wi' → (∀ j, j < n → pv_rt ro j = j → fo' j = fl j ∧ fo' (12 + j) = fr j) → post (yc, nI n, yt, op, df, ga, tu, fi', wi', fo', bs)) : wpY_makeForms post (yc, nI n, yt, op, df, ga, tu, fi, wi, fo, bs) := by
  obtain ⟨dF, dG⟩ := pv_G_dn hn hG
  obtain ⟨g1, g2, g3, g4, g5, g6, g7, g8, g9, g10⟩ := hG
  unfold wpY_makeForms
  dsimp only
  refine yw_cmpAll hn ho g1 g2 g5 (fun fi' wi' hC => ⟨24 + 1, yw_mf6 (fun fo' => ⟨n + 1, yw_mf27 hn hC g7 g8 dF dG (fun fo2 h2 => h fi' wi' fo2 hC h2) n 0 fo' (by omega) (fun j hj => absurd hj (Nat.not_lt_zero j))⟩) 24 0 fo rfl⟩)
/-! birthdays -/
theorem pv_uu {f : Nat → Int32} {k : Nat} {v w : Int32} : upd (upd f k v) k w = upd f k w := by
  funext j
  by_cases e : j = k
  · subst e; rw [pk_us, pk_us]
  · rw [pk_un e, pk_un e, pk_un e]
theorem pv_bf_ext {m : Int32} {b : Nat → Int32} {x : Nat} (h : ∀ k, bt m k = true → k < x) : ∀ d, pv_bf m b (x + d) = pv_bf m b x := by
  intro d
  induction d with
  | zero => rfl
  | succ d ih =>
    show pv_bf m b ((x + d) + 1) = _
    rw [pv_bf_s, if_neg (fun w => by have := h _ w; omega), ih]
theorem yw_b33 {post : Int32 → SY → Prop} {J : Int32 → (Nat → Int32) → (Nat → Int32) → (Nat → Int32) → (Nat → Int32) → (Nat → Int32) → (Nat → Int32) → (Nat → Int32) → (Nat → Int32) → Prop} {x1 : Int32} {n x : Nat} {b : Nat → Int32} (hx : x < 12)
    (h : J (nI (x + 1)) op df ga tu fi wi fo (upd b x (pv_bf (fo x ||| fo (12 + x)) b x))) :
    ∀ d y, y + d = x → wY_birthday_33 post J x1 (nI x) yc (nI n) yt (d + 1) (nI y) op df ga tu fi wi fo (upd b x (pv_bf (fo x ||| fo (12 + x)) b y)) := by
  have i1 := vp_in_nI (show x < 24 by omega) (show 24 < 2 ^ 31 by omega)
  have i2 := vp_in_nI (show 12 + x < 24 by omega) (show 24 < 2 ^ 31 by omega)
  have i3 := vp_in_nI (show x < 12 by omega) (show 12 < 2 ^ 31 by omega)
  have e1 : (12 : Int32) + nI x = nI (12 + x) := nI_add 12 x
  intro d
  induction d with
  | zero =>
    intro y hy
    obtain rfl : y = x := by omega
    exact pk_le y y (fun _ => nm_r (nI_1 y) h) (fun z => absurd z (by omega))
  | succ d ih =>
    intro y hy
    have k := ih (y + 1) (by omega)
    have i4 := vp_in_nI (show y < 12 by omega) (show 12 < 2 ^ 31 by omega)
    have hs := pv_bf_s (fo x ||| fo (12 + x)) b y
    refine pk_le x y (fun z => absurd z (by omega)) (fun _ => ⟨i1, ?_⟩)
    rw [e1, nI_clamp (show x < 2 ^ 31 by omega), nI_clamp (show 12 + x < 2 ^ 31 by omega), nI_clamp (show y < 2 ^ 31 by omega)]
    refine ⟨i2, yw_has (by omega) (fun hb => nm_r (nI_1 y) ?_) (fun hb => ⟨i4, i3, ?_⟩)⟩
    · rw [hs, if_neg (by rw [hb]; decide)] at k
      exact k
    · rw [pk_us, pk_un (show y ≠ x by omega), pv_uu]
      rw [hs, if_pos hb] at k
      refine br_c (fun z => nm_r (nI_1 y) ?_) (fun z => ⟨i4, i3, nm_e (nm_r (nI_1 y) ?_)⟩)
      · rw [if_pos z] at k; exact k
      · rw [if_neg z] at k; exact k
theorem yw_b16 {post : Int32 → SY → Prop} {n a : Nat} (hn : n ≤ 12) (ha : a < n) (hG : pv_G n lf rg up dn ro fl fr bi) (hC : pv_CA n up wi) (hfo : ∀ j, j < n → pv_rt ro j = j → fo j = fl j ∧ fo (12 + j) = fr j) (h : ∀ bs', post (bi a) (yc, nI n, yt, op, df, ga, tu, fi, wi, fo, bs')) :
    ∀ d x bs, x + d = n → (∀ j, j < x → pv_rt ro j = j → bs j = bi j) → wY_birthday_16 post (nI a) yc (nI n) yt (d + 1) (nI x) op df ga tu fi wi fo bs := by
  have hS := pv_G_sys hn hG
  obtain ⟨dF, dG⟩ := pv_G_dn hn hG
  obtain ⟨g1, g2, g3, g4, g5, g6, g7, g8, g9, g10⟩ := hG
  intro d
  induction d with
  | zero =>
    intro x bs hx hj
    obtain rfl : x = n := by omega
    have r1 := (g7 a ha).1
    refine pk_le x x (fun _ => yw_root hn ha hC g7 ⟨vp_in_nI (by omega) (by omega), ?_⟩) (fun z => absurd z (by omega))
    rw [nI_clamp (by omega), hj (pv_rt ro a) (by omega) (og_rt_rt hS.1 g7 ha), ← (g9 a ha).2.2]
    exact h bs
  | succ d ih =>
    intro x bs hx hj
    refine pk_le n x (fun z => absurd z (by omega)) (fun _ => ⟨vp_in_nI (by omega) (by omega), ?_⟩)
    rw [nI_clamp (by omega)]
    refine nm_e ⟨x + 1, yw_b33 (b := bs) (by omega) (ih (x + 1) _ (by omega) (fun j hjx hrj => ?_)) x 0 (by omega)⟩
    by_cases z : j = x
    · subst z
      obtain ⟨f1, f2⟩ := hfo j (by omega) hrj
      have mem : ∀ k, bt (fl j ||| fr j) k = true → k < j ∧ pv_rt ro k = k := by
        intro k hk
        rcases (bb_orT k).mp hk with w | w
        · have := og_F_L g8 (show j < n by omega) hrj w; exact ⟨this.1, this.2.1⟩
        · have := og_F_R g8 (show j < n by omega) hrj w; exact ⟨this.1, this.2.1⟩
      rw [pk_us, f1, f2, g10 j (by omega) hrj, pv_bf_cg (b' := bi) (fun k hk => hj k (mem k hk).1 (mem k hk).2)]
      have e := pv_bf_ext (b := bi) (fun k hk => (mem k hk).1) (12 - j)
      rw [show j + (12 - j) = 12 by omega] at e
      exact e.symm
    · rw [pk_un z]
      exact hj j (by omega) hrj
end YG
section OW
theorem i_vc_compare {k : Nat} {u : SX} {v : SY} (I : i_Rel k u v) (hk : k + 4 ≤ 2049) (v1 : Int32) (v2 : Int32) : wpX_compare (fun r => wpY_compare (fun r' v' => r' = r ∧ i_Rel (k + 4) u v') v v1 v2) u v1 v2 := by
  refine pv_el (P := fun u v => wpX_compare (fun r => wpY_compare (fun r' v' => r' = r ∧ i_Rel (k + 4) u v') v v1 v2) u v1 v2) ?_ I
  intro C N T dl dr lf rg up dn ro fl fr bi su tg tt ns op df fi wi fo bs h
  have h' := h
  obtain ⟨⟨h8, h12, hNC, hT, hns⟩, hG, hZ, ⟨hdl, hdr⟩, hg, ht, ho, hd0, hd1⟩ := h'
  obtain ⟨g1, g2, g3, g4, g5, g6, g7, g8, g9, g10⟩ := hG
  unfold wpX_compare
  dsimp only
  by_cases hv : ∃ g, g < N ∧ v1 = nI g
  · obtain ⟨a, ha, rfl⟩ := hv
    refine xw_gameT (by omega) ha rfl ?_
    by_cases hw : ∃ g, g < N ∧ v2 = nI g
    · obtain ⟨b, hb, rfl⟩ := hw
      have i1 := vp_in_nI (show a < 12 by omega) (show 12 < 2 ^ 31 by omega)
      refine xw_gameT (by omega) hb rfl ⟨i1, ?_⟩
      rw [nI_clamp (show a < 2 ^ 31 by omega)]
      have Y : ∀ r : Int32, (∀ r1 r2 : Int32, (r1 = 1 ∧ pv_m up a b ∨ r1 = 0 ∧ ¬ pv_m up a b) → (r2 = 1 ∧ pv_m up b a ∨ r2 = 0 ∧ ¬ pv_m up b a) → r = (if r1 = 0 then (if r2 = 0 then 3 else 2) else (if r2 = 0 then 1 else 0))) →
          wpY_compare (fun r' v' => r' = r ∧ i_Rel (k + 4) (nI C, nI N, dl, dr, nI T, lf, rg, up, dn, ro, fl, fr, bi, su, tg, tt, ns) v') (nI C, nI N, nI T, op, df, tg, tt, fi, wi, fo, bs) (nI a) (nI b) := by
        intro r hr
        unfold wpY_compare
        dsimp only
        refine yw_gameT (by omega) ha rfl (yw_gameT (by omega) hb rfl (yw_cmpAll (by omega) ho g1 g2 g5 (fun fi' wi' hC => ?_)))
        refine yw_leqP (by omega) ha hb hC (fun z1 => yw_leqP (by omega) hb ha hC (fun z2 => ?_) (fun z2 => ?_)) (fun z1 => yw_leqP (by omega) hb ha hC (fun z2 => ?_) (fun z2 => ?_))
        · exact br_f (by decide) (br_f (by decide) ⟨(hr 1 1 (Or.inl ⟨rfl, z1⟩) (Or.inl ⟨rfl, z2⟩)).symm, pv_in h⟩)
        · exact br_f (by decide) (br_t rfl (br_f (by decide) ⟨(hr 1 0 (Or.inl ⟨rfl, z1⟩) (Or.inr ⟨rfl, z2⟩)).symm, pv_in h⟩))
        · exact br_t rfl (br_t rfl (br_f (by decide) ⟨(hr 0 1 (Or.inr ⟨rfl, z1⟩) (Or.inl ⟨rfl, z2⟩)).symm, pv_in h⟩))
        · exact br_t rfl (br_t rfl (br_t rfl ⟨(hr 0 0 (Or.inr ⟨rfl, z1⟩) (Or.inr ⟨rfl, z2⟩)).symm, pv_in h⟩))
      have D : bt (dn a) b = true ↔ pv_m up b a := g4 a b ha hb
      have F : ∀ {x : Int32} {j : Nat}, bt x j = false → ¬ bt x j = true := fun e w => by rw [e] at w; exact absurd w (by decide)
      refine xw_hasP (by omega) (fun z1 => ⟨i1, xw_hasP (by omega) (fun z2 => ?_) (fun z2 => ?_)⟩) (fun z1 => ⟨i1, xw_hasP (by omega) (fun z2 => ?_) (fun z2 => ?_)⟩)
      · refine br_t rfl (br_t rfl (Y 3 ?_))
        rintro r1 r2 (⟨rfl, w1⟩ | ⟨rfl, w1⟩) (⟨rfl, w2⟩ | ⟨rfl, w2⟩)
        · exact absurd w1 (F z1)
        · exact absurd w1 (F z1)
        · exact absurd (D.mpr w2) (F z2)
        · rfl
      · refine br_t rfl (br_f (by decide) (Y 2 ?_))
        rintro r1 r2 (⟨rfl, w1⟩ | ⟨rfl, w1⟩) (⟨rfl, w2⟩ | ⟨rfl, w2⟩)
        · exact absurd w1 (F z1)
        · exact absurd w1 (F z1)
        · rfl
        · exact absurd (D.mp z2) w2
      · refine br_f (by decide) (br_t rfl (Y 1 ?_))
        rintro r1 r2 (⟨rfl, w1⟩ | ⟨rfl, w1⟩) (⟨rfl, w2⟩ | ⟨rfl, w2⟩)
        · exact absurd (D.mpr w2) (F z2)
        · rfl
        · exact absurd z1 w1
        · exact absurd z1 w1
      · refine br_f (by decide) (br_f (by decide) (Y 0 ?_))
        rintro r1 r2 (⟨rfl, w1⟩ | ⟨rfl, w1⟩) (⟨rfl, w2⟩ | ⟨rfl, w2⟩)
        · rfl
        · exact absurd (D.mp z2) w2
        · exact absurd z1 w1
        · exact absurd z1 w1
    · refine xw_gameF (by omega) hw rfl ?_
      unfold wpY_compare
      dsimp only
      exact yw_gameT (by omega) ha rfl (yw_gameF (by omega) hw rfl ⟨rfl, pv_in h⟩)
  · refine xw_gameF (by omega) hv rfl ?_
    unfold wpY_compare
    dsimp only
    exact yw_gameF (by omega) hv rfl ⟨rfl, pv_in h⟩
theorem i_vc_root {k : Nat} {u : SX} {v : SY} (I : i_Rel k u v) (hk : k + 4 ≤ 2049) (v1 : Int32) : wpX_root (fun r => wpY_root (fun r' v' => r' = r ∧ i_Rel (k + 4) u v') v v1) u v1 := by
  refine pv_el (P := fun u v => wpX_root (fun r => wpY_root (fun r' v' => r' = r ∧ i_Rel (k + 4) u v') v v1) u v1) ?_ I
  intro C N T dl dr lf rg up dn ro fl fr bi su tg tt ns op df fi wi fo bs h
  have h' := h
  obtain ⟨⟨h8, h12, hNC, hT, hns⟩, hG, hZ, ⟨hdl, hdr⟩, hg, ht, ho, hd0, hd1⟩ := h'
  obtain ⟨g1, g2, g3, g4, g5, g6, g7, g8, g9, g10⟩ := hG
  unfold wpX_root
  dsimp only
  by_cases hv : ∃ g, g < N ∧ v1 = nI g
  · obtain ⟨a, ha, rfl⟩ := hv
    refine xw_gameT (by omega) ha rfl ⟨vp_in_nI (by omega) (by omega), ?_⟩
    rw [nI_clamp (by omega), g6 a ha]
    unfold wpY_root
    dsimp only
    exact yw_gameT (by omega) ha rfl (yw_cmpAll (by omega) ho g1 g2 g5 (fun fi' wi' hC => yw_root (by omega) ha hC g7 ⟨rfl, pv_in h⟩))
  · refine xw_gameF (by omega) hv rfl ?_
    unfold wpY_root
    dsimp only
    exact yw_gameF (by omega) hv rfl ⟨rfl, pv_in h⟩
theorem i_vc_form {k : Nat} {u : SX} {v : SY} (I : i_Rel k u v) (hk : k + 4 ≤ 2049) (v1 : Int32) (v2 : Int32) : wpX_form (fun r => wpY_form (fun r' v' => r' = r ∧ i_Rel (k + 4) u v') v v1 v2) u v1 v2 := by
  refine pv_el (P := fun u v => wpX_form (fun r => wpY_form (fun r' v' => r' = r ∧ i_Rel (k + 4) u v') v v1 v2) u v1 v2) ?_ I
  intro C N T dl dr lf rg up dn ro fl fr bi su tg tt ns op df fi wi fo bs h
  have h' := h
  obtain ⟨⟨h8, h12, hNC, hT, hns⟩, hG, hZ, ⟨hdl, hdr⟩, hg, ht, ho, hd0, hd1⟩ := h'
  have hS := pv_G_sys (by omega) hG
  obtain ⟨g1, g2, g3, g4, g5, g6, g7, g8, g9, g10⟩ := id hG
  unfold wpX_form
  dsimp only
  by_cases hv : ∃ g, g < N ∧ v1 = nI g
  · obtain ⟨a, ha, rfl⟩ := hv
    refine xw_gameT (by omega) ha rfl ?_
    by_cases hs : ∃ s, s < 2 ∧ v2 = nI s
    · obtain ⟨s, hs, rfl⟩ := hs
      refine xw_sideT hs ?_
      rw [nI_clamp (show a < 2 ^ 31 by omega)]
      have i1 := vp_in_nI (show a < 12 by omega) (show 12 < 2 ^ 31 by omega)
      have r1 := (g7 a ha).1
      have rr := og_rt_rt hS.1 g7 ha
      have Y : ∀ r : Int32, (∀ fo' : Nat → Int32, fo' (pv_rt ro a) = fl (pv_rt ro a) → fo' (12 + pv_rt ro a) = fr (pv_rt ro a) → fo' (s * 12 + pv_rt ro a) = r) → wpY_form (fun r' v' => r' = r ∧ i_Rel (k + 4) (nI C, nI N, dl, dr, nI T, lf, rg, up, dn, ro, fl, fr, bi, su, tg, tt, ns) v') (nI C, nI N, nI T, op, df, tg, tt, fi, wi, fo, bs) (nI a) (nI s) := by
        intro r hr
        unfold wpY_form
        dsimp only
        refine yw_gameT (by omega) ha rfl (yw_sideT hs (yw_mf (by omega) ho hG (fun fi' wi' fo' hC hfo => yw_root (by omega) ha hC g7 ?_)))
        have e : nI s * 12 + nI (pv_rt ro a) = nI (s * 12 + pv_rt ro a) := by rw [show nI s * 12 = nI (s * 12) from pk_mul s 12, nI_add]
        rw [e, nI_clamp (by omega)]
        obtain ⟨f1, f2⟩ := hfo (pv_rt ro a) (by omega) rr
        exact ⟨vp_in_nI (by omega) (by omega), hr fo' f1 f2, pv_in h⟩
      rcases (show s = 0 ∨ s = 1 by omega) with rfl | rfl
      · refine br_t rfl ⟨i1, Y _ (fun fo' f1 f2 => ?_)⟩
        rw [show 0 * 12 + pv_rt ro a = pv_rt ro a by omega, f1, ← (g9 a ha).1]
      · refine br_f (by decide) ⟨i1, Y _ (fun fo' f1 f2 => ?_)⟩
        rw [show 1 * 12 + pv_rt ro a = 12 + pv_rt ro a by omega, f2, ← (g9 a ha).2.1]
    · refine xw_sideF hs ?_
      unfold wpY_form
      dsimp only
      exact yw_gameT (by omega) ha rfl (yw_sideF hs ⟨rfl, pv_in h⟩)
  · refine xw_gameF (by omega) hv rfl ?_
    unfold wpY_form
    dsimp only
    exact yw_gameF (by omega) hv rfl ⟨rfl, pv_in h⟩
theorem i_vc_birthday {k : Nat} {u : SX} {v : SY} (I : i_Rel k u v) (hk : k + 4 ≤ 2049) (v1 : Int32) : wpX_birthday (fun r => wpY_birthday (fun r' v' => r' = r ∧ i_Rel (k + 4) u v') v v1) u v1 := by
  refine pv_el (P := fun u v => wpX_birthday (fun r => wpY_birthday (fun r' v' => r' = r ∧ i_Rel (k + 4) u v') v v1) u v1) ?_ I
  intro C N T dl dr lf rg up dn ro fl fr bi su tg tt ns op df fi wi fo bs h
  have h' := h
  obtain ⟨⟨h8, h12, hNC, hT, hns⟩, hG, hZ, ⟨hdl, hdr⟩, hg, ht, ho, hd0, hd1⟩ := h'
  unfold wpX_birthday
  dsimp only
  by_cases hv : ∃ g, g < N ∧ v1 = nI g
  · obtain ⟨a, ha, rfl⟩ := hv
    refine xw_gameT (by omega) ha rfl ⟨vp_in_nI (by omega) (by omega), ?_⟩
    rw [nI_clamp (by omega)]
    unfold wpY_birthday
    dsimp only
    exact yw_gameT (by omega) ha rfl (yw_mf (by omega) ho hG (fun fi' wi' fo' hC hfo => ⟨N + 1, yw_b16 (by omega) ha hG hC hfo (fun bs' => ⟨rfl, pv_in h⟩) N 0 bs (by omega) (fun j hj => absurd hj (Nat.not_lt_zero j))⟩))
  · refine xw_gameF (by omega) hv rfl ?_
    unfold wpY_birthday
    dsimp only
    exact yw_gameF (by omega) hv rfl ⟨rfl, pv_in h⟩
end OW
end
section
/-! the table: its position in X, its sum in Y, and the link -/
section TB
variable {C N T ns : Nat} {dl dr : Int32} {lf rg up dn ro fl fr bi su tg tt op df fi wi fo bs : Nat → Int32}
def pv_pX (T : Nat) (ro tg tt : Nat → Int32) : Nat → Nat := fun i => if i < T then 2 * pv_rt ro (pv_rt tg i) + 1 + pv_rt tt i else 0
def pv_pY (T : Nat) (tg tt : Nat → Int32) : Nat → Nat := fun i => if i < T then 2 * pv_rt tg i + 1 + pv_rt tt i else 0
def pv_fl (T : Nat) (tt : Nat → Int32) : Nat → Nat := fun i => if i < T then pv_rt tt i else 0
def pv_us (lf rg : Nat → Int32) (s t g : Nat) : Int32 := if (s + t) % 2 = 0 then lf g else rg g
/-- the table's terms -/
def pv_TT (N T : Nat) (ro tg tt : Nat → Int32) : Prop := N ≤ 12 ∧ T ≤ 3 ∧ (∀ g, g < N → pv_rt ro g ≤ g ∧ ro g = nI (pv_rt ro g)) ∧ (∀ i, i < T → pv_rt tg i < N ∧ tg i = nI (pv_rt tg i)) ∧ (∀ i, pv_rt tt i < 2 ∧ tt i = nI (pv_rt tt i))
theorem pv_nrt {a : Nat → Int32} {i g : Nat} (hg : g < 2 ^ 31) (e : a i = nI g) : pv_rt a i = g := by
  unfold pv_rt
  rw [e, nI_clamp hg]
theorem pv_TTof (h : pv_R C N T dl dr lf rg up dn ro fl fr bi su tg tt ns op df) : pv_TT N T ro tg tt := by
  obtain ⟨⟨h8, h12, hNC, hT, hns⟩, hG, hZ, ⟨hdl, hdr⟩, hg, ht, ho, hd0, hd1⟩ := h
  refine ⟨by omega, hT, pv_G_ro hG, fun i hi => ?_, fun i => ?_⟩
  · obtain ⟨g, h1, h2⟩ := hg i hi
    rw [pv_nrt (by omega) h2]
    exact ⟨h1, h2⟩
  · obtain ⟨t, h1, h2⟩ := ht i
    rw [pv_nrt (by omega) h2]
    exact ⟨h1, h2⟩
theorem pv_pX_lt (h : pv_TT N T ro tg tt) : ∀ i, pv_pX T ro tg tt i < 32 := by
  obtain ⟨hN, hT, hr, hg, ht⟩ := h
  intro i
  unfold pv_pX
  split
  · rename_i hi
    have h1 := hg i hi
    have h2 := hr _ h1.1
    have h3 := ht i
    omega
  · omega
theorem xw_code {post : Int32 → Prop} {cap cnt tm : Int32} {g t : Nat} (hN : N ≤ 12) (hg : g < N) (hr : pv_rt ro g ≤ g ∧ ro g = nI (pv_rt ro g)) (ht : t < 2) (h : post (nI (2 * pv_rt ro g + 1 + t))) : wpX_codeOf post (cap, cnt, dl, dr, tm, lf, rg, up, dn, ro, fl, fr, bi, su, tg, tt, ns) (nI g) (nI t) := by
  refine ⟨vp_in_nI (by omega) (by omega), ?_⟩
  rw [nI_clamp (by omega), hr.2, show (2 : Int32) * nI (pv_rt ro g) = nI (2 * pv_rt ro g) from pk_mul 2 _, nI_1]
  refine nm_e ?_
  rcases (show t = 0 ∨ t = 1 by omega) with rfl | rfl
  · exact br_t rfl h
  · refine br_f (by decide) ?_
    rw [nI_1]
    exact h
def pv_Sx (p : Nat → Nat) (i : Nat) : Nat := if i = 0 then 0 else if i = 1 then p 0 else if i = 2 then p 0 + 32 * p 1 else pv_en p
theorem pv_Sx_s {p : Nat → Nat} {i : Nat} (hi : i < 3) (hp : ∀ i, p i < 32) : pv_Sx p i < 2 ^ (5 * i) ∧ pv_Sx p (i + 1) = pv_Sx p i + p i * 2 ^ (5 * i) ∧ p i * 2 ^ (5 * i) < 2 ^ 32 := by
  have h0 := hp 0
  have h1 := hp 1
  have h2 := hp 2
  rcases (show i = 0 ∨ i = 1 ∨ i = 2 by omega) with rfl | rfl | rfl
  · show 0 < 1 ∧ p 0 = 0 + p 0 * 1 ∧ p 0 * 1 < 4294967296
    omega
  · show p 0 < 32 ∧ p 0 + 32 * p 1 = p 0 + p 1 * 32 ∧ p 1 * 32 < 4294967296
    omega
  · show p 0 + 32 * p 1 < 1024 ∧ p 0 + 32 * p 1 + 1024 * p 2 = p 0 + 32 * p 1 + p 2 * 1024 ∧ p 2 * 1024 < 4294967296
    omega
theorem pv_Sx_e {p : Nat → Nat} (hT : T ≤ 3) (hp : ∀ i, T ≤ i → p i = 0) : pv_Sx p T = pv_en p := by
  rcases (show T = 0 ∨ T = 1 ∨ T = 2 ∨ T = 3 by omega) with rfl | rfl | rfl | rfl
  · show 0 = p 0 + 32 * p 1 + 1024 * p 2
    rw [hp 0 (by omega), hp 1 (by omega), hp 2 (by omega)]
  · show p 0 = p 0 + 32 * p 1 + 1024 * p 2
    have := hp 1 (by omega)
    have := hp 2 (by omega)
    omega
  · show p 0 + 32 * p 1 = p 0 + 32 * p 1 + 1024 * p 2
    have := hp 2 (by omega)
    omega
  · rfl
theorem xw_tp4 {post : Int32 → Prop} {cap cnt : Int32} (hTT : pv_TT N T ro tg tt) (h : post (nI (pv_en (pv_pX T ro tg tt)))) :
    ∀ d i, i + d = T → wX_tablePosition_4 post cap cnt dl dr (nI T) lf rg up dn ro fl fr bi su tg tt ns (d + 1) (nI (pv_Sx (pv_pX T ro tg tt) i)) (nI i) := by
  have h32 := pv_pX_lt hTT
  obtain ⟨hN, hT, hr, hg, ht⟩ := hTT
  intro d
  induction d with
  | zero =>
    intro i hi
    obtain rfl : i = T := by omega
    rw [pv_Sx_e hT (fun j hj => by unfold pv_pX; rw [if_neg (by omega)])]
    exact pk_le i i (fun _ => h) (fun z => absurd z (by omega))
  | succ d ih =>
    intro i hi
    have i1 := vp_in_nI (show i < 3 by omega) (show 3 < 2 ^ 31 by omega)
    obtain ⟨s1, s2, s3⟩ := pv_Sx_s (show i < 3 by omega) h32
    obtain ⟨g1, g2⟩ := hg i (by omega)
    obtain ⟨t1, t2⟩ := ht i
    refine pk_le T i (fun z => absurd z (by omega)) (fun _ => ⟨i1, i1, ?_⟩)
    rw [nI_clamp (by omega), g2, t2]
    refine xw_code hN g1 (hr _ g1) t1 (nm_r ?_ (nm_r (nI_1 i) (ih (i + 1) (by omega))))
    have e : 2 * pv_rt ro (pv_rt tg i) + 1 + pv_rt tt i = pv_pX T ro tg tt i := by unfold pv_pX; rw [if_pos (by omega)]
    rw [e, show (5 : Int32) * nI i = nI (5 * i) from pk_mul 5 i, bb_orl (by omega) s1 s3, s2]
theorem xw_tp {post : Int32 → Prop} {cap cnt : Int32} (hTT : pv_TT N T ro tg tt) (h : post (nI (pv_en (pv_pX T ro tg tt)))) : wpX_tablePosition post (cap, cnt, dl, dr, nI T, lf, rg, up, dn, ro, fl, fr, bi, su, tg, tt, ns) :=
  ⟨T + 1, xw_tp4 hTT h T 0 (by omega)⟩
/-! Y: load -/
def pv_Sy (p : Nat → Nat) (i : Nat) : Nat := if i = 0 then 0 else if i = 1 then (p 0 + 1) / 2 else if i = 2 then (p 0 + 1) / 2 + 13 * ((p 1 + 1) / 2) else pv_P p
theorem pv_Sy_s {p : Nat → Nat} {i : Nat} (hi : i < 3) : pv_Sy p (i + 1) = pv_Sy p i + (p i + 1) / 2 * pv_wt i := by
  rcases (show i = 0 ∨ i = 1 ∨ i = 2 by omega) with rfl | rfl | rfl
  · show (p 0 + 1) / 2 = 0 + (p 0 + 1) / 2 * 1
    omega
  · show (p 0 + 1) / 2 + 13 * ((p 1 + 1) / 2) = (p 0 + 1) / 2 + (p 1 + 1) / 2 * 13
    omega
  · show (p 0 + 1) / 2 + 13 * ((p 1 + 1) / 2) + 169 * ((p 2 + 1) / 2) = (p 0 + 1) / 2 + 13 * ((p 1 + 1) / 2) + (p 2 + 1) / 2 * 169
    omega
theorem yw_ld36 {post : Int32 → SY → Prop} {J : Int32 → Int32 → (Nat → Int32) → (Nat → Int32) → (Nat → Int32) → (Nat → Int32) → (Nat → Int32) → (Nat → Int32) → (Nat → Int32) → (Nat → Int32) → Prop} {yc yn : Int32} {i t : Nat} (hTT : pv_TT N T ro tg tt) (hi : i < 3) (htt : t < 2)
    (h : J (nI (pv_Sy (pv_pY T tg tt) (i + 1))) (nI (i + 1)) op df tg tt (upd fi i (nI t)) wi fo bs) :
    wY_load_36 post J (nI (pv_Sy (pv_pY T tg tt) i)) (nI i) (nI t) (nI i) yc yn (nI T) op df tg tt fi wi fo bs := by
  obtain ⟨hN, hT, hr, hg, ht⟩ := hTT
  have i1 := vp_in_nI hi (show 3 < 2 ^ 31 by omega)
  rw [pv_Sy_s hi] at h
  refine ⟨i1, ?_⟩
  rw [nI_clamp (by omega), pv_vb htt]
  refine nm_e (pk_le T i (fun z => ?_) (fun z => ⟨i1, yw_weight hi ?_⟩))
  · have e : pv_pY T tg tt i = 0 := by unfold pv_pY; rw [if_neg (by omega)]
    rw [e, show (0 + 1) / 2 * pv_wt i = 0 by omega, Nat.add_zero] at h
    exact nm_r (nI_1 i) h
  · obtain ⟨g1, g2⟩ := hg i z
    obtain ⟨t1, t2⟩ := ht i
    have e : (pv_pY T tg tt i + 1) / 2 = pv_rt tg i + 1 := by unfold pv_pY; rw [if_pos z]; omega
    rw [e] at h
    refine nm_r ?_ (nm_r (nI_1 i) h)
    rw [g2, nI_1, pk_mul, nI_add]
theorem yw_ld4 {post : Int32 → SY → Prop} {yc yn : Int32} (hTT : pv_TT N T ro tg tt) (h : ∀ fi', (∀ i, i < 3 → pv_fl T tt i < 2 ∧ fi' i = nI (pv_fl T tt i)) → post (nI (pv_P (pv_pY T tg tt))) (yc, yn, nI T, op, df, tg, tt, fi', wi, fo, bs)) :
    ∀ d i fi, i + d = 3 → (∀ j, j < i → pv_fl T tt j < 2 ∧ fi j = nI (pv_fl T tt j)) → wY_load_4 post yc yn (nI T) (d + 1) (nI (pv_Sy (pv_pY T tg tt) i)) (nI i) op df tg tt fi wi fo bs := by
  intro d
  induction d with
  | zero =>
    intro i fi hi hj
    obtain rfl : i = 3 := by omega
    exact pk_le 3 3 (fun _ => h fi hj) (fun z => absurd z (by omega))
  | succ d ih =>
    intro i fi hi hj
    have i1 := vp_in_nI (show i < 3 by omega) (show 3 < 2 ^ 31 by omega)
    have hT3 : T ≤ 3 := hTT.2.1
    have next : ∀ t, t < 2 → t = pv_fl T tt i → ∀ j, j < i + 1 → pv_fl T tt j < 2 ∧ upd fi i (nI t) j = nI (pv_fl T tt j) := by
      intro t ht2 e j hji
      by_cases z : j = i
      · subst z; rw [pk_us, ← e]; exact ⟨ht2, rfl⟩
      · rw [pk_un z]; exact hj j (by omega)
    have go : ∀ t, t < 2 → t = pv_fl T tt i → wY_load_36 post (wY_load_4 post yc yn (nI T) (d + 1)) (nI (pv_Sy (pv_pY T tg tt) i)) (nI i) (nI t) (nI i) yc yn (nI T) op df tg tt fi wi fo bs :=
      fun t ht2 e => yw_ld36 hTT (by omega) ht2 (ih (i + 1) _ (by omega) (next t ht2 e))
    obtain ⟨t1, t2⟩ := hTT.2.2.2.2 i
    refine pk_le 3 i (fun z => absurd z (by omega)) (fun _ => pk_le T i (fun z => go 0 (by omega) (by unfold pv_fl; rw [if_neg (by omega)])) (fun z => ⟨i1, ?_⟩))
    rw [nI_clamp (by omega), t2]
    have e : pv_fl T tt i = pv_rt tt i := by unfold pv_fl; rw [if_pos z]
    exact pk_eq (pv_rt tt i) 0 (fun w => go 0 (by omega) (by rw [e, w])) (fun w => go 1 (by omega) (by rw [e]; omega))
theorem yw_load {post : Int32 → SY → Prop} {yc yn : Int32} (hTT : pv_TT N T ro tg tt) (h : ∀ fi', (∀ i, i < 3 → pv_fl T tt i < 2 ∧ fi' i = nI (pv_fl T tt i)) → post (nI (pv_P (pv_pY T tg tt))) (yc, yn, nI T, op, df, tg, tt, fi', wi, fo, bs)) :
    wpY_load post (yc, yn, nI T, op, df, tg, tt, fi, wi, fo, bs) := ⟨4, yw_ld4 hTT h 3 0 fi rfl (fun j hj => absurd hj (Nat.not_lt_zero j))⟩
/-! the link -/
theorem pv_cB (hF : og_F N (pv_m up) (pv_rt ro) (pv_m fl) (pv_m fr)) : ∀ (i c c' s : Nat), pv_D N ro c → og_o (og_LRO (pv_m fl) (pv_m fr)) s c c' → pv_D N ro c' ∧ c' < c := by
  rintro i c c' s hc ⟨t, g, x, ht, rfl, rfl, w⟩
  rcases hc with z | ⟨t', g', ht', hg', hr', e⟩
  · omega
  · obtain rfl : t' = t := by omega
    obtain rfl : g' = g := by omega
    rcases w with ⟨_, w⟩ | ⟨_, w⟩
    · have := og_F_L hF hg' hr' w; exact ⟨Or.inr ⟨t', x, ht, by omega, this.2.1, rfl⟩, by omega⟩
    · have := og_F_R hF hg' hr' w; exact ⟨Or.inr ⟨t', x, ht, by omega, this.2.1, rfl⟩, by omega⟩
theorem pv_cA {f m : Nat → Nat} (hN : N ≤ 12) (hl : og_Dn 12 (pv_m lf)) (hr : og_Dn 12 (pv_m rg)) (hf : ∀ i, f i < 2) : ∀ (i c c' s : Nat), pv_DY N f m i c → og_o (og_LRO (pv_m lf) (pv_m rg)) s c c' → pv_DY N f m i c' ∧ c' < c := by
  rintro i c c' s hc ⟨t, g, x, ht, rfl, rfl, w⟩
  have hfi := hf i
  rcases hc with z | ⟨g', h1, h2, e⟩
  · omega
  · obtain rfl : t = f i := by omega
    obtain rfl : g' = g := by omega
    rcases w with ⟨_, w⟩ | ⟨_, w⟩
    · have := hl g' x (by omega) w; exact ⟨Or.inr ⟨x, by omega, by omega, rfl⟩, by omega⟩
    · have := hr g' x (by omega) w; exact ⟨Or.inr ⟨x, by omega, by omega, rfl⟩, by omega⟩
theorem pv_LRX (hZ : pv_Zs N ro fl fr su) : og_LR (fun _ c => pv_D N ro c) (og_o (og_LRO (pv_m fl) (pv_m fr))) (pv_W su) := by
  intro p hp s hs
  exact (hZ p hp).2 s hs
theorem pv_link {f m p q : Nat → Nat} {Lm K s : Nat} (h : pv_R C N T dl dr lf rg up dn ro fl fr bi su tg tt ns op df) (hL : Lm < 2197) (hK : K < 3) (hf : ∀ i, f i < 2) (hm : m 0 + 13 * m 1 + 169 * m 2 ≤ Lm) (hFi : pv_Fi op wi f N (Lm + 1))
    (hp : ∀ i, i < 3 → pv_DY N f m i (p i)) (hq : ∀ i, i < 3 → pv_D N ro (q i))
    (hpq : ∀ i, i < 3 → (p (og_sw K i) = 0 ∧ q i = 0) ∨ ∃ t g, t < 2 ∧ g < N ∧ p (og_sw K i) = 2 * g + 1 + t ∧ q i = 2 * pv_rt ro g + 1 + t) (hs : s < 2) : pv_WY wi s p ↔ pv_W su s q := by
  obtain ⟨⟨h8, h12, hNC, hT, hns⟩, hG, hZ, ⟨hdl, hdr⟩, hg, ht, ho, hd0, hd1⟩ := h
  have hS := pv_G_sys (by omega) hG
  obtain ⟨g1, g2, g3, g4, g5, g6, g7, g8, g9, g10⟩ := hG
  have LA := og_LR_sw hK (pv_Fi_LR (by omega) hL (fun i _ => hf i) hm ho g1 g2 hFi)
  have R := og_sum_eq hS g8 LA (pv_LRX hZ) (fun i c c' s => pv_cA (by omega) g1 g2 hf (og_sw K i) c c' s) (pv_cB g8) (p := fun i => p (og_sw K i)) (q := q) (fun i hi => hp _ (og_sw_lt hK hi)) hq hpq hs
  have e : (fun i => p (og_sw K (og_sw K i))) = p := funext fun i => by rw [og_sw_sw]
  have R : pv_WY wi s (fun i => p (og_sw K (og_sw K i))) ↔ pv_W su s q := R
  rw [e] at R
  exact R
theorem pv_sw2 {i : Nat} : og_sw 2 i = i := by
  unfold og_sw
  split
  · omega
  · rfl
theorem pv_fl2 (h : pv_TT N T ro tg tt) : ∀ i, pv_fl T tt i < 2 := by
  intro i
  unfold pv_fl
  split
  · exact (h.2.2.2.2 i).1
  · omega
theorem pv_pY_T {i : Nat} (hi : ¬ i < T) : pv_pY T tg tt i = 0 := if_neg hi
theorem pv_pX_T {i : Nat} (hi : ¬ i < T) : pv_pX T ro tg tt i = 0 := if_neg hi
theorem pv_pY_t {i : Nat} (hi : i < T) : pv_pY T tg tt i = 2 * pv_rt tg i + 1 + pv_rt tt i := if_pos hi
theorem pv_pX_t {i : Nat} (hi : i < T) : pv_pX T ro tg tt i = 2 * pv_rt ro (pv_rt tg i) + 1 + pv_rt tt i := if_pos hi
theorem pv_fl_t {i : Nat} (hi : i < T) : pv_fl T tt i = pv_rt tt i := if_pos hi
/-- places of the table correspond -/
theorem pv_tab (hTT : pv_TT N T ro tg tt) (i : Nat) : (pv_pY T tg tt i = 0 ∧ pv_pX T ro tg tt i = 0) ∨ ∃ t g, t < 2 ∧ g < N ∧ pv_pY T tg tt i = 2 * g + 1 + t ∧ pv_pX T ro tg tt i = 2 * pv_rt ro g + 1 + t := by
  by_cases hi : i < T
  · exact Or.inr ⟨_, _, (hTT.2.2.2.2 i).1, (hTT.2.2.2.1 i hi).1, pv_pY_t hi, pv_pX_t hi⟩
  · exact Or.inl ⟨pv_pY_T hi, pv_pX_T hi⟩
theorem pv_root_D {g t : Nat} (h : pv_R C N T dl dr lf rg up dn ro fl fr bi su tg tt ns op df) (hg : g < N) (ht : t < 2) : pv_D N ro (2 * pv_rt ro g + 1 + t) := by
  have hG := h.2.1
  have hN : N ≤ 12 := by have := h.1; omega
  have hS := pv_G_sys hN hG
  have hR := hG.2.2.2.2.2.2.1
  have := (hR g hg).1
  exact Or.inr ⟨t, pv_rt ro g, ht, by omega, og_rt_rt hS.1 hR hg, rfl⟩
theorem pv_pX_D (h : pv_R C N T dl dr lf rg up dn ro fl fr bi su tg tt ns op df) (i : Nat) : pv_D N ro (pv_pX T ro tg tt i) := by
  have hTT := pv_TTof h
  by_cases hi : i < T
  · rw [pv_pX_t hi]
    exact pv_root_D h (hTT.2.2.2.1 i hi).1 (hTT.2.2.2.2 i).1
  · rw [pv_pX_T hi]; exact Or.inl rfl
theorem pv_dgY (hTT : pv_TT N T ro tg tt) (i : Nat) : (pv_pY T tg tt i + 1) / 2 ≤ N := by
  by_cases hi : i < T
  · have h1 := (hTT.2.2.2.1 i hi).1
    have h2 := (hTT.2.2.2.2 i).1
    rw [pv_pY_t hi]
    omega
  · rw [pv_pY_T hi]; omega
theorem pv_P_lt (hTT : pv_TT N T ro tg tt) : pv_P (pv_pY T tg tt) < 2197 := by
  have hN := hTT.1
  have h0 := pv_dgY hTT 0
  have h1 := pv_dgY hTT 1
  have h2 := pv_dgY hTT 2
  unfold pv_P
  omega
theorem pv_pY_D (hTT : pv_TT N T ro tg tt) {i : Nat} : pv_DY N (pv_fl T tt) (fun i => (pv_pY T tg tt i + 1) / 2) i (pv_pY T tg tt i) := by
  by_cases hi : i < T
  · refine Or.inr ⟨pv_rt tg i, (hTT.2.2.2.1 i hi).1, ?_, by rw [pv_pY_t hi, pv_fl_t hi]⟩
    dsimp only
    rw [pv_pY_t hi]
    omega
  · exact Or.inl (pv_pY_T hi)
end TB
end
section
/-! outcome, play, hint, value -/
section PL
variable {C N T ns : Nat} {dl dr : Int32} {lf rg up dn ro fl fr bi su tg tt op df fi wi fo bs : Nat → Int32}
theorem pv_v3 {v : Int32} {P Q : Prop} (hv : ∀ j, bt v j = true ↔ (j = 0 ∧ P) ∨ (j = 1 ∧ Q)) {x : Int32} (h2 : ∀ j, 2 ≤ j → ¬ bt x j = true) (h0 : bt x 0 = true ↔ P) (h1 : bt x 1 = true ↔ Q) : v = x := by
  apply bb_eq
  intro j
  rw [hv j]
  rcases (show j = 0 ∨ j = 1 ∨ 2 ≤ j by omega) with rfl | rfl | hj
  · rw [h0]
    exact ⟨fun z => z.elim (fun w => w.2) (fun w => absurd w.1 (by decide)), fun z => Or.inl ⟨rfl, z⟩⟩
  · rw [h1]
    exact ⟨fun z => z.elim (fun w => absurd w.1 (by decide)) (fun w => w.2), fun z => Or.inr ⟨rfl, z⟩⟩
  · exact ⟨fun z => by omega, fun z => absurd z (h2 j hj)⟩
theorem yw_out {post : Int32 → SY → Prop} {yc : Int32} (hTT : pv_TT N T ro tg tt) (hop : pv_Ob op)
    (h : ∀ fi' wi' v, pv_Fi op wi' (pv_fl T tt) N (pv_P (pv_pY T tg tt) + 1) → (∀ j, bt v j = true ↔ (j = 0 ∧ pv_WY wi' 1 (pv_pY T tg tt)) ∨ (j = 1 ∧ pv_WY wi' 0 (pv_pY T tg tt))) → post v (yc, nI N, nI T, op, df, tg, tt, fi', wi', fo, bs)) :
    wpY_outcome post (yc, nI N, nI T, op, df, tg, tt, fi, wi, fo, bs) := by
  have hlt := pv_P_lt hTT
  unfold wpY_outcome
  dsimp only
  refine yw_load hTT (fun fi' hfi => yw_fill hTT.1 hlt hfi hop (fun wi' hF => ?_))
  have H := h fi' wi'
  have i1 := vp_in_nI (show pv_P (pv_pY T tg tt) < 4394 by omega) (show 4394 < 2 ^ 31 by omega)
  have i2 := vp_in_nI (show 2197 + pv_P (pv_pY T tg tt) < 4394 by omega) (show 4394 < 2 ^ 31 by omega)
  have e1 : (2197 : Int32) + nI (pv_P (pv_pY T tg tt)) = nI (2197 + pv_P (pv_pY T tg tt)) := nI_add 2197 _
  have w0 : pv_WY wi' 0 (pv_pY T tg tt) ↔ ¬ wi' (pv_P (pv_pY T tg tt)) = 0 := by
    unfold pv_WY
    rw [show 0 * 2197 + pv_P (pv_pY T tg tt) = pv_P (pv_pY T tg tt) by omega]
  have w1 : pv_WY wi' 1 (pv_pY T tg tt) ↔ ¬ wi' (2197 + pv_P (pv_pY T tg tt)) = 0 := by
    unfold pv_WY
    rw [show 1 * 2197 + pv_P (pv_pY T tg tt) = 2197 + pv_P (pv_pY T tg tt) by omega]
  rw [w0, w1] at H
  have Tr : ∀ {P : Prop}, P → (true = true ↔ P) := fun h => ⟨fun _ => h, fun _ => rfl⟩
  have Fa : ∀ {P : Prop}, ¬ P → (false = true ↔ P) := fun h => ⟨fun z => absurd z (by decide), fun z => absurd z h⟩
  have n34 : (wi' (pv_P (pv_pY T tg tt)) = 0 ∨ wi' (2197 + pv_P (pv_pY T tg tt)) = 0) → wY_outcome_34 post (nI (pv_P (pv_pY T tg tt))) yc (nI N) (nI T) op df tg tt fi' wi' fo bs := by
    intro hor
    refine ⟨i1, ?_⟩
    rw [e1, nI_clamp (by omega), nI_clamp (by omega)]
    refine br_c (fun z0 => ⟨i2, br_c (fun z1 => ?_) (fun z1 => ?_)⟩) (fun z0 => ?_)
    · exact H _ hF (bb_v3 false false (Fa fun w => w z1) (Fa fun w => w z0))
    · exact H _ hF (bb_v3 true false (Tr z1) (Fa fun w => w z0))
    · have z1 : wi' (2197 + pv_P (pv_pY T tg tt)) = 0 := hor.resolve_left z0
      exact H _ hF (bb_v3 false true (Fa fun w => w z1) (Tr z0))
  refine ⟨i1, ?_⟩
  rw [e1, nI_clamp (by omega), nI_clamp (by omega)]
  refine br_c (fun z0 => n34 (Or.inl z0)) (fun z0 => ⟨i2, br_c (fun z1 => n34 (Or.inr z1)) (fun z1 => ?_)⟩)
  exact H _ hF (bb_v3 true true (Tr z1) (Tr z0))
theorem pv_obR (h : pv_R C N T dl dr lf rg up dn ro fl fr bi su tg tt ns op df) : pv_Ob op := pv_ob h.2.2.2.2.2.2.1 h.2.1.1 h.2.1.2.1
theorem pv_linkT {s : Nat} (h : pv_R C N T dl dr lf rg up dn ro fl fr bi su tg tt ns op df) (hFi : pv_Fi op wi (pv_fl T tt) N (pv_P (pv_pY T tg tt) + 1)) (hs : s < 2) : pv_WY wi s (pv_pY T tg tt) ↔ pv_W su s (pv_pX T ro tg tt) := by
  have hTT := pv_TTof h
  refine pv_link (K := 2) (m := fun i => (pv_pY T tg tt i + 1) / 2) h (pv_P_lt hTT) (by omega) (pv_fl2 hTT) (Nat.le_refl _) hFi (fun i _ => pv_pY_D hTT) (fun i _ => pv_pX_D h i) (fun i _ => ?_) hs
  rw [pv_sw2]
  exact pv_tab hTT i
theorem pv_out (h : pv_R C N T dl dr lf rg up dn ro fl fr bi su tg tt ns op df) : ∃ r, (∀ post : Int32 → Prop, post r → wpX_outcome post (nI C, nI N, dl, dr, nI T, lf, rg, up, dn, ro, fl, fr, bi, su, tg, tt, ns)) ∧ (∀ post : Int32 → SY → Prop, (∀ fi' wi', post r (nI C, nI N, nI T, op, df, tg, tt, fi', wi', fo, bs)) → wpY_outcome post (nI C, nI N, nI T, op, df, tg, tt, fi, wi, fo, bs)) := by
  have hTT := pv_TTof h
  have hlt := pv_en_lt (fun i _ => pv_pX_lt hTT i)
  obtain ⟨⟨h8, h12, hNC, hT, hns⟩, hG, hZ, _⟩ := id h
  refine ⟨su (pv_en (pv_pX T ro tg tt)), fun post hp => ?_, fun post hp => ?_⟩
  · unfold wpX_outcome
    dsimp only
    refine xw_tp hTT ⟨?_, ?_⟩
    · rw [hns]; exact vp_in_nI hlt (by omega)
    · rw [nI_clamp (by omega)]; exact hp
  · refine yw_out hTT (pv_obR h) (fun fi' wi' v hF hv => ?_)
    have g2 := hZ _ (fun i _ => pv_pX_D h i)
    have e := pv_v3 hv g2.1 (pv_linkT h hF (s := 1) (by omega)).symm (pv_linkT h hF (s := 0) (by omega)).symm
    rw [e]
    exact hp fi' wi'
theorem i_vc_outcome {k : Nat} {u : SX} {v : SY} (I : i_Rel k u v) (hk : k + 4 ≤ 2049) : wpX_outcome (fun r => wpY_outcome (fun r' v' => r' = r ∧ i_Rel (k + 4) u v') v) u := by
  refine pv_el (P := fun u v => wpX_outcome (fun r => wpY_outcome (fun r' v' => r' = r ∧ i_Rel (k + 4) u v') v) u) ?_ I
  intro C N T dl dr lf rg up dn ro fl fr bi su tg tt ns op df fi wi fo bs h
  obtain ⟨r, hX, hY⟩ := pv_out (fi := fi) (wi := wi) (fo := fo) (bs := bs) h
  exact hX _ (hY _ (fun fi' wi' => ⟨rfl, pv_in h⟩))
/-! the options that a side may use -/
theorem xw_use {post : Int32 → Prop} {cap cnt tm : Int32} {s i : Nat} (hTT : pv_TT N T ro tg tt) (hs : s < 2) (hi : i < T) (h : post (pv_us lf rg s (pv_rt tt i) (pv_rt tg i))) : wpX_usableOptions post (cap, cnt, dl, dr, tm, lf, rg, up, dn, ro, fl, fr, bi, su, tg, tt, ns) (nI i) (nI s) := by
  obtain ⟨hN, hT, hr, hg, ht⟩ := hTT
  obtain ⟨g1, g2⟩ := hg i hi
  obtain ⟨t1, t2⟩ := ht i
  have i1 := vp_in_nI (show i < 3 by omega) (show 3 < 2 ^ 31 by omega)
  have i2 := vp_in_nI (show pv_rt tg i < 12 by omega) (show 12 < 2 ^ 31 by omega)
  have W : ∀ z, z < 2 → (z ≠ pv_rt tt i ↔ (s + pv_rt tt i) % 2 = 0) → wX_usableOptions_16 post (nI i) (nI (pv_rt tg i)) (nI z) cap cnt dl dr tm lf rg up dn ro fl fr bi su tg tt ns := by
    intro z hz hzz
    refine ⟨i1, ?_⟩
    rw [nI_clamp (by omega), t2]
    refine pk_eq z (pv_rt tt i) (fun e => br_t rfl ⟨i2, ?_⟩) (fun e => br_f (by decide) ⟨i2, ?_⟩)
    · rw [nI_clamp (by omega)]
      unfold pv_us at h
      rw [if_neg (fun w => hzz.mpr w e)] at h
      exact h
    · rw [nI_clamp (by omega)]
      unfold pv_us at h
      rw [if_pos (hzz.mp e)] at h
      exact h
  refine ⟨i1, nm_r (e' := nI (pv_rt tg i)) (by rw [nI_clamp (by omega)]; exact g2) ?_⟩
  rcases (show s = 0 ∨ s = 1 by omega) with rfl | rfl
  · exact br_t rfl (W 1 (by omega) (by omega))
  · exact br_f (by decide) (W 0 (by omega) (by omega))
theorem pv_us_op {s t g : Nat} (ho : ∀ g, g < 12 → op g = lf g ∧ op (12 + g) = rg g) (hg : g < 12) : op (((s + t) % 2) * 12 + g) = pv_us lf rg s t g := by
  obtain ⟨o1, o2⟩ := ho g hg
  unfold pv_us
  by_cases e : (s + t) % 2 = 0
  · rw [if_pos e, e, show 0 * 12 + g = g by omega, o1]
  · rw [if_neg e, show (s + t) % 2 = 1 by omega, show 1 * 12 + g = 12 + g by omega, o2]
theorem i_vc_play {k : Nat} {u : SX} {v : SY} (I : i_Rel k u v) (hk : k + 4 ≤ 2049) (v1 : Int32) (v2 : Int32) (v3 : Int32) : wpX_play (fun r u' => wpY_play (fun r' v' => r' = r ∧ i_Rel (k + 4) u' v') v v1 v2 v3) u v1 v2 v3 := by
  refine pv_el (P := fun u v => wpX_play (fun r u' => wpY_play (fun r' v' => r' = r ∧ i_Rel (k + 4) u' v') v v1 v2 v3) u v1 v2 v3) ?_ I
  intro C N T dl dr lf rg up dn ro fl fr bi su tg tt ns op df fi wi fo bs h
  have hTT := pv_TTof h
  have h' := h
  obtain ⟨⟨h8, h12, hNC, hT, hns⟩, hG, hZ, ⟨hdl, hdr⟩, hg, ht, ho, hd0, hd1⟩ := h'
  unfold wpX_play wpY_play
  dsimp only
  by_cases hs : ∃ s, s < 2 ∧ v1 = nI s
  · obtain ⟨s, hs, rfl⟩ := hs
    refine xw_sideT hs ?_
    by_cases hi : ∃ i, i < T ∧ v2 = nI i
    · obtain ⟨i, hi, rfl⟩ := hi
      have n1 : ¬ nI i < 0 := nI_pos (by omega)
      have n2 : ¬ nI T ≤ nI i := nI_ge hi (by omega)
      refine xw_placeT (by omega) hi rfl ?_
      by_cases hv : ∃ g, g < N ∧ v3 = nI g
      · obtain ⟨o, hoN, rfl⟩ := hv
        obtain ⟨gi1, gi2⟩ := hTT.2.2.2.1 i hi
        obtain ⟨t1, t2⟩ := hTT.2.2.2.2 i
        have i1 := vp_in_nI (show i < 3 by omega) (show 3 < 2 ^ 31 by omega)
        refine xw_gameT (by omega) hoN rfl (xw_use hTT hs hi ?_)
        rw [nI_clamp (show i < 2 ^ 31 by omega), gi2, t2]
        refine xw_has (by omega) (fun hb => ?_) (fun hb => ⟨i1, nm_e ?_⟩)
        · refine yw_sideT hs (br_f n1 (br_f n2 (yw_gameT (by omega) hoN rfl ⟨i1, i1, yw_used hs t1 (by omega) ?_⟩)))
          rw [pv_us_op ho (by omega)]
          refine yw_has (by omega) (fun _ => ⟨rfl, pv_in h⟩) (fun w => ?_)
          rw [hb] at w
          exact absurd w (by decide)
        · have h2 : pv_R C N T dl dr lf rg up dn ro fl fr bi su (upd tg i (nI o)) tt ns op df := by
            refine ⟨⟨h8, h12, hNC, hT, hns⟩, hG, hZ, ⟨hdl, hdr⟩, fun j hj => ?_, ht, ho, hd0, hd1⟩
            by_cases e : j = i
            · subst e; rw [pk_us]; exact ⟨o, hoN, rfl⟩
            · rw [pk_un e]; exact hg j hj
          obtain ⟨r, hX, hY⟩ := pv_out (fi := fi) (wi := wi) (fo := fo) (bs := bs) h2
          refine hX _ (yw_sideT hs (br_f n1 (br_f n2 (yw_gameT (by omega) hoN rfl ⟨i1, i1, yw_used hs t1 (by omega) ?_⟩))))
          rw [pv_us_op ho (by omega)]
          refine yw_has (by omega) (fun w => ?_) (fun _ => ⟨i1, nm_e (hY _ (fun fi' wi' => ⟨rfl, pv_in h2⟩))⟩)
          rw [hb] at w
          exact absurd w (by decide)
      · exact xw_gameF (by omega) hv rfl (yw_sideT hs (br_f n1 (br_f n2 (yw_gameF (by omega) hv rfl ⟨rfl, pv_in h⟩))))
    · exact xw_placeF (by omega) hi rfl (yw_sideT hs (br_c (fun _ => ⟨rfl, pv_in h⟩) (fun z => br_t (pv_nlt (by omega) hi z) ⟨rfl, pv_in h⟩)))
  · exact xw_sideF hs (yw_sideF hs ⟨rfl, pv_in h⟩)
end PL
end
section
/-! hint, value -/
section HI
variable {C N T ns : Nat} {dl dr : Int32} {lf rg up dn ro fl fr bi su tg tt op df fi wi fo bs : Nat → Int32}
def pv_Hx (T : Nat) (lf rg su ro tg tt : Nat → Int32) (s i o : Nat) : Prop :=
  bt (pv_us lf rg s (pv_rt tt i) (pv_rt tg i)) o = true ∧ ¬ pv_W su (1 - s) (og_fs (pv_pX T ro tg tt) i (2 * pv_rt ro o + 1 + pv_rt tt i))
theorem xw_wo27 {post : Int32 → Prop} {cap : Int32} {s i : Nat} (hTT : pv_TT N T ro tg tt) (hns : ns = 32768) (hs : s < 2) (hi : i < T)
    (h1 : ∀ o, o < N → pv_Hx T lf rg su ro tg tt s i o → (∀ j, j < o → ¬ pv_Hx T lf rg su ro tg tt s i j) → post (nI o)) (h0 : (∀ o, o < N → ¬ pv_Hx T lf rg su ro tg tt s i o) → post (-5)) :
    ∀ d o, o + d = N → (∀ j, j < o → ¬ pv_Hx T lf rg su ro tg tt s i j) →
      wX_winningOption_27 post (nI i) (nI s) (nI (5 * i)) (nI (pv_en (pv_pX T ro tg tt)) &&& (((31 : Int32) <<< (nI (5 * i) &&& 31)) ^^^ (-1))) (pv_us lf rg s (pv_rt tt i) (pv_rt tg i)) cap (nI N) dl dr (nI T) lf rg up dn ro fl fr bi su tg tt ns (d + 1) (nI o) := by
  have h32 := pv_pX_lt hTT
  obtain ⟨hN, hT, hr, hg, ht⟩ := hTT
  obtain ⟨t1, t2⟩ := ht i
  intro d
  induction d with
  | zero =>
    intro o ho hj
    obtain rfl : o = N := by omega
    exact pk_le o o (fun _ => h0 hj) (fun z => absurd z (by omega))
  | succ d ih =>
    intro o ho hj
    have next : ¬ pv_Hx T lf rg su ro tg tt s i o → ∀ j, j < o + 1 → ¬ pv_Hx T lf rg su ro tg tt s i j := by
      intro w j hjo
      by_cases e : j = o
      · subst e; exact w
      · exact hj j (by omega)
    have ro1 := (hr o (by omega)).1
    refine pk_le N o (fun z => absurd z (by omega)) (fun _ => ⟨vp_in_nI (by omega) (by omega), ?_⟩)
    rw [nI_clamp (by omega), t2]
    refine xw_code hN (show o < N by omega) (hr o (by omega)) t1 (nm_r (bb_put (fun i _ => h32 i) (by omega) (by omega)) ?_)
    refine xw_has (by omega) (fun hb => nm_r (nI_1 o) (ih (o + 1) (by omega) (next fun w => ?_))) (fun hb => ?_)
    · have := w.1
      rw [hb] at this
      exact absurd this (by decide)
    · refine xw_reply (pv_en_lt (pv_fs32 (fun i _ => h32 i) (by omega))) hns hs (fun z => nm_r (nI_1 o) (ih (o + 1) (by omega) (next fun w => w.2 ?_))) (fun z => h1 o (by omega) ⟨hb, fun w => ?_⟩ hj)
      · unfold pv_W
        rw [show 1 - (1 - s) = s by omega]
        exact z
      · unfold pv_W at w
        rw [show 1 - (1 - s) = s by omega, z] at w
        exact absurd w (by decide)
theorem xw_wo {post : Int32 → Prop} {cap : Int32} {s i : Nat} (hTT : pv_TT N T ro tg tt) (hns : ns = 32768) (hs : s < 2) (hi : i < T)
    (h1 : ∀ o, o < N → pv_Hx T lf rg su ro tg tt s i o → (∀ j, j < o → ¬ pv_Hx T lf rg su ro tg tt s i j) → post (nI o)) (h0 : (∀ o, o < N → ¬ pv_Hx T lf rg su ro tg tt s i o) → post (-5)) :
    wpX_winningOption post (cap, nI N, dl, dr, nI T, lf, rg, up, dn, ro, fl, fr, bi, su, tg, tt, ns) (nI (pv_en (pv_pX T ro tg tt))) (nI i) (nI s) :=
  nm_r (show (5 : Int32) * nI i = nI (5 * i) from pk_mul 5 i) (nm_e (xw_use hTT hs hi ⟨N + 1, xw_wo27 hTT hns hs hi h1 h0 N 0 (by omega) (fun j hj => absurd hj (Nat.not_lt_zero j))⟩))
/-- the first hit, by places and then by options -/
def pv_fst (H : Nat → Nat → Prop) (T N i o : Nat) : Prop := i < T ∧ o < N ∧ H i o ∧ ∀ i' o', o' < N → (i' < i ∨ (i' = i ∧ o' < o)) → ¬ H i' o'
theorem pv_fst_u {H H' : Nat → Nat → Prop} {i o i' o' : Nat} (hH : ∀ i o, i < T → o < N → (H i o ↔ H' i o)) (h : pv_fst H T N i o) (h' : pv_fst H' T N i' o') : i = i' ∧ o = o' := by
  obtain ⟨a1, a2, a3, a4⟩ := h
  obtain ⟨b1, b2, b3, b4⟩ := h'
  have n1 : ¬ (i' < i ∨ (i' = i ∧ o' < o)) := fun z => a4 i' o' b2 z ((hH i' o' b1 b2).mpr b3)
  have n2 : ¬ (i < i' ∨ (i = i' ∧ o < o')) := fun z => b4 i o a2 z ((hH i o a1 a2).mp a3)
  omega
theorem xw_hi17 {post : Int32 → Prop} {cap : Int32} {s : Nat} (hTT : pv_TT N T ro tg tt) (hns : ns = 32768) (hs : s < 2)
    (h1 : ∀ i o, pv_fst (pv_Hx T lf rg su ro tg tt s) T N i o → post (nI (16 * i + o))) (h0 : (∀ i o, i < T → o < N → ¬ pv_Hx T lf rg su ro tg tt s i o) → post (-5)) :
    ∀ d i, i + d = T → (∀ j o, j < i → o < N → ¬ pv_Hx T lf rg su ro tg tt s j o) → wX_hint_17 post (nI s) (nI (pv_en (pv_pX T ro tg tt))) cap (nI N) dl dr (nI T) lf rg up dn ro fl fr bi su tg tt ns (d + 1) (nI i) := by
  have hT3 : T ≤ 3 := hTT.2.1
  have hN12 : N ≤ 12 := hTT.1
  intro d
  induction d with
  | zero =>
    intro i hi hj
    obtain rfl : i = T := by omega
    exact pk_le i i (fun _ => h0 hj) (fun z => absurd z (by omega))
  | succ d ih =>
    intro i hi hj
    refine pk_le T i (fun z => absurd z (by omega)) (fun _ => xw_wo hTT hns hs (by omega) (fun o ho hH hmin => br_f (nI_pos (by omega)) ?_) (fun hno => br_t (by decide) (nm_r (nI_1 i) (ih (i + 1) (by omega) (fun j o hji ho => ?_)))))
    · rw [show (16 : Int32) * nI i = nI (16 * i) from pk_mul 16 i, nI_add]
      refine h1 i o ⟨by omega, ho, hH, fun i' o' ho' hor => ?_⟩
      rcases hor with z | ⟨z1, z2⟩
      · exact hj i' o' z ho'
      · subst z1; exact hmin o' z2
    · by_cases e : j = i
      · subst e; exact hno o ho
      · exact hj j o (by omega) ho
theorem yw_hi33 {post : Int32 → SY → Prop} {J : Int32 → Prop} {yc : Int32} {f : Nat → Nat} {s P i : Nat} (hN : N ≤ 12) (hs : s < 2) (hP : P < 2197) (hi : i < 3) (hf : f i < 2 ∧ fi i = nI (f i)) (hop : pv_Ob op)
    (h1 : ∀ o, o < N → pv_mw op wi f s P i o → (∀ j, j < o → ¬ pv_mw op wi f s P i j) → post (nI (16 * i + o)) (yc, nI N, nI T, op, df, tg, tt, fi, wi, fo, bs)) (h0 : (∀ o, o < N → ¬ pv_mw op wi f s P i o) → J (nI (i + 1))) :
    ∀ d o, o + d = N → (∀ j, j < o → ¬ pv_mw op wi f s P i j) → wY_hint_33 post J (nI s) (nI P) (nI i) yc (nI N) (nI T) op df tg tt fi wi fo bs (d + 1) (nI o) := by
  intro d
  induction d with
  | zero =>
    intro o ho hj
    obtain rfl : o = N := by omega
    exact pk_le o o (fun _ => nm_r (nI_1 i) (h0 hj)) (fun z => absurd z (by omega))
  | succ d ih =>
    intro o ho hj
    refine pk_le N o (fun z => absurd z (by omega)) (fun _ => yw_mw hs hP hi (by omega) hf hop (fun z => nm_r (nI_1 o) (ih (o + 1) (by omega) (fun j hjo => ?_))) (fun z => ?_))
    · by_cases e : j = o
      · subst e; exact z
      · exact hj j (by omega)
    · rw [show (16 : Int32) * nI i = nI (16 * i) from pk_mul 16 i, nI_add]
      exact h1 o (by omega) z hj
theorem yw_hi22 {post : Int32 → SY → Prop} {yc : Int32} {f : Nat → Nat} {s P : Nat} (hN : N ≤ 12) (hT : T ≤ 3) (hs : s < 2) (hP : P < 2197) (hf : ∀ i, i < 3 → f i < 2 ∧ fi i = nI (f i)) (hop : pv_Ob op)
    (h1 : ∀ i o, pv_fst (pv_mw op wi f s P) T N i o → post (nI (16 * i + o)) (yc, nI N, nI T, op, df, tg, tt, fi, wi, fo, bs)) (h0 : (∀ i o, i < T → o < N → ¬ pv_mw op wi f s P i o) → post (-5) (yc, nI N, nI T, op, df, tg, tt, fi, wi, fo, bs)) :
    ∀ d i, i + d = T → (∀ j o, j < i → o < N → ¬ pv_mw op wi f s P j o) → wY_hint_22 post (nI s) (nI P) yc (nI N) (nI T) op df tg tt fi wi fo bs (d + 1) (nI i) := by
  intro d
  induction d with
  | zero =>
    intro i hi hj
    obtain rfl : i = T := by omega
    exact pk_le i i (fun _ => h0 hj) (fun z => absurd z (by omega))
  | succ d ih =>
    intro i hi hj
    refine pk_le T i (fun z => absurd z (by omega)) (fun _ => ⟨N + 1, yw_hi33 hN hs hP (by omega) (hf i (by omega)) hop (fun o ho hH hmin => h1 i o ⟨by omega, ho, hH, fun i' o' ho' hor => ?_⟩) (fun hno => ih (i + 1) (by omega) (fun j o hji ho => ?_)) N 0 (by omega) (fun j hj => absurd hj (Nat.not_lt_zero j))⟩)
    · rcases hor with z | ⟨z1, z2⟩
      · exact hj i' o' z ho'
      · subst z1; exact hmin o' z2
    · by_cases e : j = i
      · subst e; exact hno o ho
      · exact hj j o (by omega) ho
theorem pv_hintEq {s i o : Nat} (h : pv_R C N T dl dr lf rg up dn ro fl fr bi su tg tt ns op df) (hs : s < 2) (hi : i < T) (hoN : o < N) (hFi : pv_Fi op wi (pv_fl T tt) N (pv_P (pv_pY T tg tt) + 1)) :
    pv_Hx T lf rg su ro tg tt s i o ↔ pv_mw op wi (pv_fl T tt) s (pv_P (pv_pY T tg tt)) i o := by
  have hTT := pv_TTof h
  have hob := pv_obR h
  have ho := h.2.2.2.2.2.2.1
  obtain ⟨gi1, gi2⟩ := hTT.2.2.2.1 i hi
  obtain ⟨t1, t2⟩ := hTT.2.2.2.2 i
  have hN := hTT.1
  have hT3 := hTT.2.1
  have e1 : (pv_pY T tg tt i + 1) / 2 = pv_rt tg i + 1 := by rw [pv_pY_t hi]; omega
  have e2 : pv_dg (pv_P (pv_pY T tg tt)) i = pv_rt tg i + 1 := by
    rw [pv_P_dg hN (fun i _ => pv_fl2 hTT i) (fun i _ => pv_pY_D hTT) i (by omega), e1]
  unfold pv_mw pv_Hx
  rw [e2, Nat.add_sub_cancel, pv_fl_t hi, pv_us_op ho (by omega)]
  have key : bt (pv_us lf rg s (pv_rt tt i) (pv_rt tg i)) o = true → ((¬ pv_W su (1 - s) (og_fs (pv_pX T ro tg tt) i (2 * pv_rt ro o + 1 + pv_rt tt i))) ↔ wi ((1 - s) * 2197 + (pv_P (pv_pY T tg tt) - (pv_rt tg i - o) * pv_wt i)) = 0) := by
    intro hb
    have hog : o < pv_rt tg i := by
      rw [← pv_us_op ho (by omega)] at hb
      exact hob _ _ _ (Nat.mod_lt _ (by decide)) (by omega) hb
    have L := pv_link (K := 2) (m := fun i => (pv_pY T tg tt i + 1) / 2) (p := og_fs (pv_pY T tg tt) i (2 * o + 1 + pv_rt tt i)) (q := og_fs (pv_pX T ro tg tt) i (2 * pv_rt ro o + 1 + pv_rt tt i)) (s := 1 - s) h (pv_P_lt hTT) (by omega) (pv_fl2 hTT) (Nat.le_refl _) hFi
      (og_fsD (fun j _ => pv_pY_D hTT) (Or.inr ⟨o, hoN, by dsimp only; omega, by rw [pv_fl_t hi]⟩))
      (og_fsD (D := fun _ c => pv_D N ro c) (fun j _ => pv_pX_D h j) (pv_root_D h hoN t1))
      (fun j hj => by
        rw [pv_sw2]
        by_cases e : j = i
        · subst e
          rw [og_fs_s, og_fs_s]
          exact Or.inr ⟨_, o, t1, hoN, rfl, rfl⟩
        · rw [og_fs_n e, og_fs_n e]
          exact pv_tab hTT j) (by omega)
    rw [← L]
    unfold pv_WY
    rw [pv_P_fs (by omega) (by omega), e1, show pv_rt tg i + 1 - (2 * o + 1 + pv_rt tt i + 1) / 2 = pv_rt tg i - o by omega]
    exact Classical.not_not
  exact ⟨fun z => ⟨by omega, z.1, (key z.1).mp z.2⟩, fun z => ⟨z.2.1, (key z.2.1).mpr z.2.2⟩⟩
theorem i_vc_hint {k : Nat} {u : SX} {v : SY} (I : i_Rel k u v) (hk : k + 4 ≤ 2049) (v1 : Int32) : wpX_hint (fun r => wpY_hint (fun r' v' => r' = r ∧ i_Rel (k + 4) u v') v v1) u v1 := by
  refine pv_el (P := fun u v => wpX_hint (fun r => wpY_hint (fun r' v' => r' = r ∧ i_Rel (k + 4) u v') v v1) u v1) ?_ I
  intro C N T dl dr lf rg up dn ro fl fr bi su tg tt ns op df fi wi fo bs h
  have hTT := pv_TTof h
  have hob := pv_obR h
  have h' := h
  obtain ⟨⟨h8, h12, hNC, hT, hns⟩, hG, hZ, ⟨hdl, hdr⟩, hg, ht, ho, hd0, hd1⟩ := h'
  unfold wpX_hint wpY_hint
  dsimp only
  by_cases hs : ∃ s, s < 2 ∧ v1 = nI s
  · obtain ⟨s, hs, rfl⟩ := hs
    refine xw_sideT hs (xw_tp hTT ⟨T + 1, xw_hi17 hTT hns hs (fun i o hf => ?_) (fun hno => ?_) T 0 (by omega) (fun j o hj => absurd hj (Nat.not_lt_zero j))⟩)
    · refine yw_sideT hs (yw_load hTT (fun fi' hfi => yw_fill hTT.1 (pv_P_lt hTT) hfi hob (fun wi' hF => ⟨T + 1, yw_hi22 (by omega) hT hs (pv_P_lt hTT) hfi hob (fun i' o' hf' => ?_) (fun hno => ?_) T 0 (by omega) (fun j o hj => absurd hj (Nat.not_lt_zero j))⟩)))
      · obtain ⟨q1, q2⟩ := pv_fst_u (fun i o hi ho => pv_hintEq h hs hi ho hF) hf hf'
        subst q1
        subst q2
        exact ⟨rfl, pv_in h⟩
      · exact absurd ((pv_hintEq h hs hf.1 hf.2.1 hF).mp hf.2.2.1) (hno i o hf.1 hf.2.1)
    · refine yw_sideT hs (yw_load hTT (fun fi' hfi => yw_fill hTT.1 (pv_P_lt hTT) hfi hob (fun wi' hF => ⟨T + 1, yw_hi22 (by omega) hT hs (pv_P_lt hTT) hfi hob (fun i' o' hf' => ?_) (fun _ => ⟨rfl, pv_in h⟩) T 0 (by omega) (fun j o hj => absurd hj (Nat.not_lt_zero j))⟩)))
      exact absurd ((pv_hintEq h hs hf'.1 hf'.2.1 hF).mpr hf'.2.2.1) (hno i' o' hf'.1 hf'.2.1)
  · exact xw_sideF hs (yw_sideF hs ⟨rfl, pv_in h⟩)
/-! value -/
def pv_Vx (T : Nat) (su ro tg tt : Nat → Int32) (c : Nat) : Prop := ∀ s, s < 2 → ¬ pv_W su s (og_fs (pv_pX T ro tg tt) 2 (2 * pv_rt ro c + 1 + 1))
theorem pv_Vx_D {c : Nat} (h : pv_R C N T dl dr lf rg up dn ro fl fr bi su tg tt ns op df) (hc : c < N) : ∀ i, i < 3 → pv_D N ro (og_fs (pv_pX T ro tg tt) 2 (2 * pv_rt ro c + 1 + 1) i) :=
  og_fsD (D := fun _ c => pv_D N ro c) (fun j _ => pv_pX_D h j) (pv_root_D h hc (by omega))
theorem pv_Vx_0 {c : Nat} (h : pv_R C N T dl dr lf rg up dn ro fl fr bi su tg tt ns op df) (hc : c < N) : su (pv_en (og_fs (pv_pX T ro tg tt) 2 (2 * pv_rt ro c + 1 + 1))) = 0 ↔ pv_Vx T su ro tg tt c := by
  have hZ := h.2.2.1 _ (pv_Vx_D h hc)
  unfold pv_Vx pv_W
  constructor
  · intro e s hs
    rw [e]
    exact bb_0F _
  · intro e
    apply bb_nz
    intro j
    rcases (show j = 0 ∨ j = 1 ∨ 2 ≤ j by omega) with rfl | rfl | hj
    · exact e 1 (by omega)
    · exact e 0 (by omega)
    · exact hZ.1 j hj
theorem xw_va18 {post : Int32 → Prop} (h : pv_R C N T dl dr lf rg up dn ro fl fr bi su tg tt ns op df) (hT : T < 3) (h1 : ∀ c, c < N → pv_Vx T su ro tg tt c → (∀ j, j < c → ¬ pv_Vx T su ro tg tt j) → post (nI c)) (h0 : (∀ c, c < N → ¬ pv_Vx T su ro tg tt c) → post (-5)) :
    ∀ d c, c + d = N → (∀ j, j < c → ¬ pv_Vx T su ro tg tt j) → wX_value_18 post (nI (pv_en (pv_pX T ro tg tt))) (nI C) (nI N) dl dr (nI T) lf rg up dn ro fl fr bi su tg tt ns (d + 1) (nI c) := by
  have hTT := pv_TTof h
  have hns : ns = 32768 := h.1.2.2.2.2
  have h32 := pv_pX_lt hTT
  have q0 := h32 0
  have q1 := h32 1
  have e2 : pv_pX T ro tg tt 2 = 0 := pv_pX_T (by omega)
  have hen : pv_en (pv_pX T ro tg tt) < 2 ^ 10 := by unfold pv_en; omega
  have hN := hTT.1
  intro d
  induction d with
  | zero =>
    intro c hc hj
    obtain rfl : c = N := by omega
    exact pk_le c c (fun _ => h0 hj) (fun z => absurd z (by omega))
  | succ d ih =>
    intro c hc hj
    have hrc := hTT.2.2.1 c (by omega)
    have e : nI (pv_en (pv_pX T ro tg tt)) ||| (nI (2 * pv_rt ro c + 1 + 1) <<< ((10 : Int32) &&& 31)) = nI (pv_en (og_fs (pv_pX T ro tg tt) 2 (2 * pv_rt ro c + 1 + 1))) := by
      refine (bb_orl (k := 10) (by omega) hen (by omega)).trans (congrArg nI ?_)
      unfold pv_en
      rw [og_fs_s, og_fs_n (by decide), og_fs_n (by decide), e2]
      omega
    have hlt : pv_en (og_fs (pv_pX T ro tg tt) 2 (2 * pv_rt ro c + 1 + 1)) < 32768 := pv_en_lt (pv_fs32 (fun i _ => h32 i) (by omega))
    refine pk_le N c (fun z => absurd z (by omega)) (fun _ => xw_code (t := 1) hN (show c < N by omega) hrc (by omega) (nm_r e ⟨?_, ?_⟩))
    · rw [hns]; exact vp_in_nI hlt (by omega)
    · rw [nI_clamp (by omega)]
      refine br_c (fun z => h1 c (by omega) ((pv_Vx_0 h (by omega)).mp z) hj) (fun z => nm_r (nI_1 c) (ih (c + 1) (by omega) (fun j hjc => ?_)))
      by_cases e : j = c
      · subst e; exact fun w => z ((pv_Vx_0 h (by omega)).mpr w)
      · exact hj j (by omega)
def pv_Vy (wi : Nat → Int32) (P w c : Nat) : Prop := wi (P + (c + 1) * w) = 0 ∧ wi (2197 + P + (c + 1) * w) = 0
theorem yw_va49 {post : Int32 → SY → Prop} {yc yt : Int32} {P w : Nat} (hN : N ≤ 12) (hP : P + N * w < 2197) (h1 : ∀ c, c < N → pv_Vy wi P w c → (∀ j, j < c → ¬ pv_Vy wi P w j) → post (nI c) (yc, nI N, yt, op, df, tg, tt, fi, wi, fo, bs)) (h0 : (∀ c, c < N → ¬ pv_Vy wi P w c) → post (-5) (yc, nI N, yt, op, df, tg, tt, fi, wi, fo, bs)) :
    ∀ d c, c + d = N → (∀ j, j < c → ¬ pv_Vy wi P w j) → wY_value_49 post (nI P) (nI w) yc (nI N) yt op df tg tt fi wi fo bs (d + 1) (nI c) := by
  intro d
  induction d with
  | zero =>
    intro c hc hj
    obtain rfl : c = N := by omega
    exact pk_le c c (fun _ => h0 hj) (fun z => absurd z (by omega))
  | succ d ih =>
    intro c hc hj
    have hcw : (c + 1) * w ≤ N * w := Nat.mul_le_mul_right w (by omega)
    have e1 : nI P + (nI c + 1) * nI w = nI (P + (c + 1) * w) := by rw [nI_1, pk_mul, nI_add]
    have e2 : (2197 + nI P) + (nI c + 1) * nI w = nI (2197 + P + (c + 1) * w) := by
      rw [show (2197 : Int32) + nI P = nI (2197 + P) from nI_add 2197 P, nI_1, pk_mul, nI_add]
    have next : ¬ pv_Vy wi P w c → ∀ j, j < c + 1 → ¬ pv_Vy wi P w j := by
      intro z j hjc
      by_cases e : j = c
      · subst e; exact z
      · exact hj j (by omega)
    refine pk_le N c (fun z => absurd z (by omega)) (fun _ => ?_)
    rw [e1, e2, nI_clamp (show P + (c + 1) * w < 2 ^ 31 by omega), nI_clamp (show 2197 + P + (c + 1) * w < 2 ^ 31 by omega)]
    refine ⟨vp_in_nI (by omega) (by omega), br_c (fun z1 => ⟨vp_in_nI (by omega) (by omega), br_c (fun z2 => h1 c (by omega) ⟨z1, z2⟩ hj) (fun z2 => nm_r (nI_1 c) (ih (c + 1) (by omega) (next fun w => z2 w.2)))⟩) (fun z1 => nm_r (nI_1 c) (ih (c + 1) (by omega) (next fun w => z1 w.1)))⟩
def pv_f1 (T : Nat) (tt : Nat → Int32) : Nat → Nat := fun i => if i = T then 1 else pv_fl T tt i
def pv_m1 (N T : Nat) (tg tt : Nat → Int32) : Nat → Nat := fun i => if i = T then N else (pv_pY T tg tt i + 1) / 2
theorem pv_m1_s (hT : T < 3) : pv_m1 N T tg tt 0 + 13 * pv_m1 N T tg tt 1 + 169 * pv_m1 N T tg tt 2 = pv_P (pv_pY T tg tt) + N * pv_wt T := by
  have e : pv_pY T tg tt T = 0 := pv_pY_T (by omega)
  have a : pv_m1 N T tg tt T = N := if_pos rfl
  have b : ∀ i, i ≠ T → pv_m1 N T tg tt i = (pv_pY T tg tt i + 1) / 2 := fun i hi => if_neg hi
  unfold pv_P
  rcases (show T = 0 ∨ T = 1 ∨ T = 2 by omega) with rfl | rfl | rfl
  · rw [a, b 1 (by decide), b 2 (by decide), e]
    show _ = _ + N * 1
    omega
  · rw [a, b 0 (by decide), b 2 (by decide), e]
    show _ = _ + N * 13
    omega
  · rw [a, b 0 (by decide), b 1 (by decide), e]
    show _ = _ + N * 169
    omega
theorem pv_PN_lt (hTT : pv_TT N T ro tg tt) (hT : T < 3) : pv_P (pv_pY T tg tt) + N * pv_wt T < 2197 := by
  rw [← pv_m1_s hT]
  have hN := hTT.1
  have k : ∀ i, pv_m1 N T tg tt i ≤ N := by
    intro i
    unfold pv_m1
    split
    · omega
    · exact pv_dgY hTT i
  have h0 := k 0
  have h1 := k 1
  have h2 := k 2
  omega
theorem pv_P_add {p : Nat → Nat} {c : Nat} (hT : T < 3) (hp : p T = 0) : pv_P (og_fs p T (2 * c + 1 + 1)) = pv_P p + (c + 1) * pv_wt T := by
  unfold pv_P
  rcases (show T = 0 ∨ T = 1 ∨ T = 2 by omega) with rfl | rfl | rfl
  · rw [og_fs_s, og_fs_n (by decide), og_fs_n (by decide), hp]
    show _ = _ + (c + 1) * 1
    omega
  · rw [og_fs_s, og_fs_n (by decide), og_fs_n (by decide), hp]
    show _ = _ + (c + 1) * 13
    omega
  · rw [og_fs_s, og_fs_n (by decide), og_fs_n (by decide), hp]
    show _ = _ + (c + 1) * 169
    omega
theorem pv_valEq {c : Nat} (h : pv_R C N T dl dr lf rg up dn ro fl fr bi su tg tt ns op df) (hT : T < 3) (hc : c < N) (hFi : pv_Fi op wi (pv_f1 T tt) N (pv_P (pv_pY T tg tt) + N * pv_wt T + 1)) :
    pv_Vx T su ro tg tt c ↔ pv_Vy wi (pv_P (pv_pY T tg tt)) (pv_wt T) c := by
  have hTT := pv_TTof h
  have fT : pv_f1 T tt T = 1 := if_pos rfl
  have L : ∀ s, s < 2 → (pv_WY wi s (og_fs (pv_pY T tg tt) T (2 * c + 1 + 1)) ↔ pv_W su s (og_fs (pv_pX T ro tg tt) 2 (2 * pv_rt ro c + 1 + 1))) := by
    intro s hs
    refine pv_link (K := T) (m := pv_m1 N T tg tt) h (pv_PN_lt hTT hT) hT (fun i => ?_) (Nat.le_of_eq (pv_m1_s hT)) hFi (fun i hi => ?_) (pv_Vx_D h hc) (fun i hi => ?_) hs
    · unfold pv_f1
      split
      · omega
      · exact pv_fl2 hTT i
    · by_cases e : i = T
      · subst e
        rw [og_fs_s]
        exact Or.inr ⟨c, hc, by show c < pv_m1 N i tg tt i; rw [show pv_m1 N i tg tt i = N from if_pos rfl]; exact hc, by rw [fT]⟩
      · rw [og_fs_n e]
        rcases pv_pY_D hTT (i := i) with z | ⟨g, g1, g2, g3⟩
        · exact Or.inl z
        · exact Or.inr ⟨g, g1, by rw [show pv_m1 N T tg tt i = (pv_pY T tg tt i + 1) / 2 from if_neg e]; exact g2, by rw [show pv_f1 T tt i = pv_fl T tt i from if_neg e]; exact g3⟩
    · by_cases e2 : i = 2
      · subst e2
        have e : og_sw T 2 = T := by
          unfold og_sw
          split
          · omega
          · exact if_pos rfl
        rw [e, og_fs_s, og_fs_s]
        exact Or.inr ⟨1, c, by omega, hc, rfl, rfl⟩
      · rw [og_fs_n (p := pv_pX T ro tg tt) e2]
        by_cases e : i = T
        · subst e
          have e : og_sw i i = 2 := if_pos rfl
          rw [e, og_fs_n (fun w => e2 w.symm)]
          exact Or.inl ⟨pv_pY_T (by omega), pv_pX_T (by omega)⟩
        · have e3 : og_sw T i = i := by
            unfold og_sw
            rw [if_neg e, if_neg e2]
          rw [e3, og_fs_n e]
          exact pv_tab hTT i
  have L0 := L 0 (by omega)
  have L1 := L 1 (by omega)
  unfold pv_WY at L0 L1
  rw [pv_P_add hT (pv_pY_T (by omega))] at L0 L1
  rw [show 0 * 2197 + (pv_P (pv_pY T tg tt) + (c + 1) * pv_wt T) = pv_P (pv_pY T tg tt) + (c + 1) * pv_wt T by omega] at L0
  rw [show 1 * 2197 + (pv_P (pv_pY T tg tt) + (c + 1) * pv_wt T) = 2197 + pv_P (pv_pY T tg tt) + (c + 1) * pv_wt T by omega] at L1
  unfold pv_Vx pv_Vy
  constructor
  · intro z
    exact ⟨Classical.byContradiction fun w => z 0 (by omega) (L0.mp w), Classical.byContradiction fun w => z 1 (by omega) (L1.mp w)⟩
  · rintro ⟨z0, z1⟩ s hs w
    rcases (show s = 0 ∨ s = 1 by omega) with rfl | rfl
    · exact L0.mpr w z0
    · exact L1.mpr w z1
theorem i_vc_value {k : Nat} {u : SX} {v : SY} (I : i_Rel k u v) (hk : k + 4 ≤ 2049) : wpX_value (fun r => wpY_value (fun r' v' => r' = r ∧ i_Rel (k + 4) u v') v) u := by
  refine pv_el (P := fun u v => wpX_value (fun r => wpY_value (fun r' v' => r' = r ∧ i_Rel (k + 4) u v') v) u) ?_ I
  intro C N T dl dr lf rg up dn ro fl fr bi su tg tt ns op df fi wi fo bs h
  have hTT := pv_TTof h
  have hob := pv_obR h
  have h' := h
  obtain ⟨⟨h8, h12, hNC, hT, hns⟩, hG, hZ, ⟨hdl, hdr⟩, hg, ht, ho, hd0, hd1⟩ := h'
  unfold wpX_value wpY_value
  dsimp only
  rcases Nat.lt_or_ge T 3 with hT3 | hT3
  · have c3 : nI T < 3 := nI_lt (b := 3) hT3 (by omega)
    have Y : ∀ r : Int32, (∀ wi', pv_Fi op wi' (pv_f1 T tt) N (pv_P (pv_pY T tg tt) + N * pv_wt T + 1) → (∀ c, c < N → pv_Vy wi' (pv_P (pv_pY T tg tt)) (pv_wt T) c → (∀ j, j < c → ¬ pv_Vy wi' (pv_P (pv_pY T tg tt)) (pv_wt T) j) → nI c = r) ∧ ((∀ c, c < N → ¬ pv_Vy wi' (pv_P (pv_pY T tg tt)) (pv_wt T) c) → -5 = r)) →
        wpY_value (fun r' v' => r' = r ∧ i_Rel (k + 4) (nI C, nI N, dl, dr, nI T, lf, rg, up, dn, ro, fl, fr, bi, su, tg, tt, ns) v') (nI C, nI N, nI T, op, df, tg, tt, fi, wi, fo, bs) := by
      intro r hr
      unfold wpY_value
      dsimp only
      refine br_t c3 (yw_load hTT (fun fi' hfi => yw_weight hT3 ⟨vp_in_nI hT3 (by omega), ?_⟩))
      rw [nI_clamp (by omega), pv_vb1, pk_mul, nI_add]
      refine nm_e (yw_fill (f := pv_f1 T tt) hTT.1 (pv_PN_lt hTT hT3) (fun i hi => ?_) hob (fun wi' hF => ⟨N + 1, yw_va49 hTT.1 (pv_PN_lt hTT hT3) (fun c hc w1 w2 => ⟨(hr wi' hF).1 c hc w1 w2, pv_in h⟩) (fun w => ⟨(hr wi' hF).2 w, pv_in h⟩) N 0 (by omega) (fun j hj => absurd hj (Nat.not_lt_zero j))⟩))
      by_cases e : i = T
      · subst e
        rw [pk_us, show pv_f1 i tt i = 1 from if_pos rfl]
        exact ⟨by omega, rfl⟩
      · rw [pk_un e, show pv_f1 T tt i = pv_fl T tt i from if_neg e]
        exact hfi i hi
    refine br_t c3 (xw_tp hTT ⟨N + 1, xw_va18 h hT3 (fun c hc w1 w2 => Y (nI c) (fun wi' hF => ⟨fun c' hc' v1 v2 => ?_, fun v => ?_⟩)) (fun w => Y (-5) (fun wi' hF => ⟨fun c' hc' v1 v2 => ?_, fun v => rfl⟩)) N 0 (by omega) (fun j hj => absurd hj (Nat.not_lt_zero j))⟩)
    · have n1 : ¬ c < c' := fun z => v2 c z ((pv_valEq h hT3 hc hF).mp w1)
      have n2 : ¬ c' < c := fun z => w2 c' z ((pv_valEq h hT3 hc' hF).mpr v1)
      exact congrArg nI (by omega)
    · exact absurd ((pv_valEq h hT3 hc hF).mp w1) (v c hc)
    · exact absurd ((pv_valEq h hT3 hc' hF).mpr v1) (w c' hc')
  · have c3 : ¬ nI T < 3 := nI_nlt (b := 3) hT3 (by omega)
    exact br_f c3 (br_f c3 ⟨rfl, pv_in h⟩)
end HI
end
