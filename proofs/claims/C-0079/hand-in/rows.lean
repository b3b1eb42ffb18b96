section
theorem pk_us {f : Nat → Int32} {k : Nat} {x : Int32} : upd f k x k = x := if_pos rfl
theorem pk_un {f : Nat → Int32} {k j : Nat} {x : Int32} (h : j ≠ k) : upd f k x j = f j := if_neg h
theorem pk_sub {a b : Nat} (h : b ≤ a) : nI a - nI b = nI (a - b) := by
  obtain ⟨c, rfl⟩ : ∃ c, a = c + b := ⟨a - b, by omega⟩
  rw [← nI_add, Int32.add_sub_cancel, Nat.add_sub_cancel]
theorem pk_m1 (n : Nat) : nI (n + 1) + (-1) = nI n := by
  rw [← nI_1, Int32.add_assoc, show (1 : Int32) + (-1) = 0 from rfl, Int32.add_zero]
theorem pk_mul (a b : Nat) : nI a * nI b = nI (a * b) := (Int32.ofNat_mul a b).symm
theorem pk_div {a d : Nat} (ha : a < 2 ^ 31) (h0 : 0 < d) (hd : d < 2 ^ 31) : nI a / nI d = nI (a / d) := by
  apply Int32.toInt_inj.mp
  rw [lg_idiv_nonneg (by rw [nI_toInt ha]; omega) (by rw [nI_toInt hd]; omega), nI_toInt ha, nI_toInt hd, nI_toInt (Nat.lt_of_le_of_lt (Nat.div_le_self a d) ha)]
  first | rfl | exact (Int.natCast_ediv _ _).symm
theorem pk_rem {a d : Nat} (ha : a < 2 ^ 31) (h0 : 0 < d) (hd : d < 2 ^ 31) : nI a - nI a / nI d * nI d = nI (a % d) := by
  rw [pk_div ha h0 hd, pk_mul, pk_sub (Nat.div_mul_le_self a d)]
  exact congrArg nI (by have := Nat.div_add_mod' a d; omega)
theorem pk_sub_toInt {a b : Nat} (ha : a < 2 ^ 30) (hb : b < 2 ^ 30) : (nI a - nI b).toInt = (a : Int) - b := by
  rw [Int32.toInt_sub, nI_toInt (by omega), nI_toInt (by omega)]
  exact Int.bmod_eq_of_le (by omega) (by omega)
theorem pk_sneg {a b : Nat} (hb : b < 2 ^ 30) (h : a < b) : nI a - nI b < 0 := by
  rw [Int32.lt_iff_toInt_lt, pk_sub_toInt (by omega) hb, show (0 : Int32).toInt = 0 from by decide]
  omega
theorem pk_ix (x : Int32) {n : Nat} (hn : n < 2 ^ 31) : x < 0 ∨ nI n ≤ x ∨ ∃ j : Nat, j < n ∧ x = nI j := by
  by_cases h : x < 0
  · exact Or.inl h
  · obtain ⟨j, hj, rfl⟩ := nI_of h
    by_cases h2 : j < n
    · exact Or.inr (Or.inr ⟨j, h2, rfl⟩)
    · exact Or.inr (Or.inl (nI_le (by omega) hj))
theorem pk_le {x y : Int32} {A B : Prop} (a b : Nat) (f : a ≤ b → A) (g : b < a → B) (hx : x = nI a := by rfl) (hy : y = nI b := by rfl) (ha : a < 2 ^ 31 := by omega) (hb : b < 2 ^ 31 := by omega) : (x ≤ y → A) ∧ (¬ x ≤ y → B) := by
  subst hx hy
  rw [nI_leI ha hb]
  exact ⟨f, fun z => g (by omega)⟩
theorem pk_lt {x y : Int32} {A B : Prop} (a b : Nat) (f : a < b → A) (g : b ≤ a → B) (hx : x = nI a := by rfl) (hy : y = nI b := by rfl) (ha : a < 2 ^ 31 := by omega) (hb : b < 2 ^ 31 := by omega) : (x < y → A) ∧ (¬ x < y → B) := by
  subst hx hy
  rw [nI_ltI ha hb]
  exact ⟨f, fun z => g (by omega)⟩
theorem pk_eq {x y : Int32} {A B : Prop} (a b : Nat) (f : a = b → A) (g : a ≠ b → B) (hx : x = nI a := by rfl) (hy : y = nI b := by rfl) (ha : a < 2 ^ 31 := by omega) (hb : b < 2 ^ 31 := by omega) : (x = y → A) ∧ (¬ x = y → B) := by
  subst hx hy
  rw [nI_eq ha hb]
  exact ⟨f, g⟩
theorem pk_in {x : Int32} (n N : Nat) (h : n < N) (hx : x = nI n := by rfl) (hN : N < 2 ^ 31 := by omega) : vp_in x N := by
  subst hx
  exact vp_in_nI h hN
theorem pk_cl {x : Int32} (n : Nat) (hx : x = nI n := by rfl) (h : n < 2 ^ 31 := by omega) : x.toNatClampNeg = n := by
  subst hx
  exact nI_clamp h
theorem pk_tn {n : Nat} (h : n < 2 ^ 32) : (nI n).toBitVec.toNat = n := Nat.mod_eq_of_lt h
theorem pk_and (x : Int32) {m : Int32} (k : Nat) (hm : m.toBitVec.toNat = 2 ^ k - 1) : x &&& m = nI (x.toBitVec.toNat % 2 ^ k) := by
  apply Int32.toBitVec_inj.mp
  apply BitVec.eq_of_toNat_eq
  rw [Int32.toBitVec_and, BitVec.toNat_and, hm, Nat.and_two_pow_sub_one_eq_mod]
  show _ = (BitVec.ofNat 32 _).toNat
  rw [BitVec.toNat_ofNat]
  exact (Nat.mod_eq_of_lt (Nat.lt_of_le_of_lt (Nat.mod_le _ _) x.toBitVec.isLt)).symm
theorem pk_andN {n : Nat} (h : n < 2 ^ 32) {m : Int32} (k : Nat) (hm : m.toBitVec.toNat = 2 ^ k - 1) : nI n &&& m = nI (n % 2 ^ k) := by
  rw [pk_and _ k hm, pk_tn h]
theorem pk_andE (x : Int32) {m : Int32} (k : Nat) (hm : m.toBitVec.toNat = 2 ^ k - 1) : ∃ j : Nat, j < 2 ^ k ∧ x &&& m = nI j := ⟨_, Nat.mod_lt _ (Nat.two_pow_pos k), pk_and x k hm⟩
theorem pk_andIn (x : Int32) {m : Int32} (k : Nat) (hm : m.toBitVec.toNat = 2 ^ k - 1) (hk : k ≤ 30) : vp_in (x &&& m) (2 ^ k) := by
  obtain ⟨j, hj, e⟩ := pk_andE x k hm
  rw [e]
  exact vp_in_nI hj (Nat.lt_of_le_of_lt (Nat.pow_le_pow_right (by decide) hk) (by decide))
theorem pk_shl (a s : Int32) (k : Nat) (hs : (s.toBitVec.smod 32).toNat = k) : (a <<< s).toBitVec.toNat = a.toBitVec.toNat * 2 ^ k % 2 ^ 32 := by
  show (a.toBitVec <<< (s.toBitVec.smod 32).toNat).toNat = _
  rw [hs, BitVec.toNat_shiftLeft, Nat.shiftLeft_eq]
theorem pk_shlN {n : Nat} (s : Int32) (k : Nat) (hs : (s.toBitVec.smod 32).toNat = k) (h : n * 2 ^ k < 2 ^ 32) : nI n <<< s = nI (n * 2 ^ k) := by
  apply Int32.toBitVec_inj.mp
  apply BitVec.eq_of_toNat_eq
  have hn : n < 2 ^ 32 := Nat.lt_of_le_of_lt (Nat.le_mul_of_pos_right n (Nat.two_pow_pos k)) h
  rw [pk_shl _ _ k hs, pk_tn hn, pk_tn h, Nat.mod_eq_of_lt h]
theorem pk_shr (a s : Int32) (k : Nat) (hs : (s.toBitVec.smod 32).toNat = k) : (a >>> s).toInt = a.toInt >>> k := by
  show (a.toBitVec.sshiftRight (s.toBitVec.smod 32).toNat).toInt = _
  rw [hs, BitVec.toInt_sshiftRight]
  rfl
theorem pk_shrN {n : Nat} (h : n < 2 ^ 31) (s : Int32) (k : Nat) (hs : (s.toBitVec.smod 32).toNat = k) : nI n >>> s = nI (n / 2 ^ k) := by
  apply Int32.toInt_inj.mp
  have h2 : n / 2 ^ k ≤ n := Nat.div_le_self _ _
  rw [pk_shr _ _ k hs, nI_toInt h, nI_toInt (by omega), Int.shiftRight_eq_div_pow]
  rfl
theorem pk_vb (z : Int32) : vp_nar .byte z.toInt8.toInt32 = z.toInt8.toInt32 := by rw [vp_nar_byte]; simp
theorem pk_least (P : Nat → Prop) (h : ∃ k, P k) : ∃ k, P k ∧ ∀ j, j < k → ¬ P j := by
  obtain ⟨k, hk⟩ := h
  induction k using Nat.strongRecOn with
  | ind k ih =>
    by_cases e : ∃ j, j < k ∧ P j
    · obtain ⟨j, hj, pj⟩ := e
      exact ih j hj pj
    · exact ⟨k, hk, fun j hj pj => e ⟨j, hj, pj⟩⟩
theorem sb_cl0 : (0 : Int32).toNatClampNeg = 0 := by decide
theorem sb_m1 {p : Nat} (h : 0 < p) : nI p + (-1) = nI (p - 1) := by
  obtain ⟨q, rfl⟩ : ∃ q, p = q + 1 := ⟨p - 1, by omega⟩
  exact pk_m1 q
def bt (x : Int32) (i : Nat) : Bool := x.toBitVec.getLsbD i
theorem b_ext {x y : Int32} (h : ∀ i, i < 32 → bt x i = bt y i) : x = y := Int32.toBitVec_inj.mp (BitVec.eq_of_getLsbD_eq (fun i hi => h i hi))
theorem b_or (x y : Int32) (i : Nat) : bt (x ||| y) i = (bt x i || bt y i) := by unfold bt; rw [Int32.toBitVec_or, BitVec.getLsbD_or]
theorem b_and (x y : Int32) (i : Nat) : bt (x &&& y) i = (bt x i && bt y i) := by unfold bt; rw [Int32.toBitVec_and, BitVec.getLsbD_and]
theorem b_xor (x y : Int32) (i : Nat) : bt (x ^^^ y) i = (bt x i ^^ bt y i) := by unfold bt; rw [Int32.toBitVec_xor, BitVec.getLsbD_xor]
theorem b_big {x : Int32} {i : Nat} (h : 32 ≤ i) : bt x i = false := BitVec.getLsbD_of_ge _ _ h
theorem b_255 (i : Nat) : bt 255 i = decide (i < 8) := by
  rcases Nat.lt_or_ge i 32 with h | h
  · exact (by decide +kernel : ∀ i, i < 32 → bt 255 i = decide (i < 8)) i h
  · rw [b_big h, decide_eq_false (by omega)]
theorem b_65535 (i : Nat) : bt 65535 i = decide (i < 16) := by
  rcases Nat.lt_or_ge i 32 with h | h
  · exact (by decide +kernel : ∀ i, i < 32 → bt 65535 i = decide (i < 16)) i h
  · rw [b_big h, decide_eq_false (by omega)]
theorem b_m1 : ∀ i, i < 32 → bt (-1) i = true := by decide +kernel
theorem b_0 (i : Nat) : bt 0 i = false := BitVec.getLsbD_zero
theorem s_l : ∀ n, n < 32 → ((nI n &&& 31).toBitVec.smod 32).toNat = n := by decide +kernel
theorem s_u : ∀ n, n < 32 → (((nI n).toUInt32 &&& Int32.toUInt32 31).toBitVec % 32).toNat = n := by decide +kernel
theorem b_shl (n : Nat) (hn : n < 32) (x : Int32) {i : Nat} (hi : i < 32) : bt (x <<< (nI n &&& 31)) i = (decide (n ≤ i) && bt x (i - n)) := by
  unfold bt
  rw [Int32.toBitVec_shiftLeft]
  show (x.toBitVec <<< ((nI n &&& 31).toBitVec.smod 32).toNat).getLsbD i = _
  rw [s_l n hn, BitVec.getLsbD_shiftLeft]
  rcases Nat.lt_or_ge i n with h | h
  · simp [h, Nat.not_le.mpr h]
  · simp [hi, h, Nat.not_lt.mpr h]
theorem b_ushr (n : Nat) (hn : n < 32) (x : Int32) (i : Nat) : bt ((x.toUInt32 >>> ((nI n).toUInt32 &&& Int32.toUInt32 31)).toInt32) i = bt x (n + i) := by
  show (x.toUInt32 >>> ((nI n).toUInt32 &&& Int32.toUInt32 31)).toBitVec.getLsbD i = x.toUInt32.toBitVec.getLsbD (n + i)
  rw [UInt32.toBitVec_shiftRight]
  show (x.toUInt32.toBitVec >>> (((nI n).toUInt32 &&& Int32.toUInt32 31).toBitVec % 32).toNat).getLsbD i = _
  rw [s_u n hn, BitVec.getLsbD_ushiftRight]
theorem b_sshr (n : Nat) (hn : n < 32) (x : Int32) {i : Nat} (hi : i < 32) : bt (x >>> (nI n &&& 31)) i = if n + i < 32 then bt x (n + i) else bt x 31 := by
  unfold bt
  rw [Int32.toBitVec_shiftRight]
  show (x.toBitVec.sshiftRight ((nI n &&& 31).toBitVec.smod 32).toNat).getLsbD i = _
  rw [s_l n hn, BitVec.getLsbD_sshiftRight, BitVec.msb_eq_getLsbD_last]
  simp [hi]
end
section
/-! ===== packing by hand: m bins of room R, loads D, items L ===== -/
def bd_ad (D : Nat → Nat) (b w : Nat) : Nat → Nat := fun j => if j = b then D j + w else D j
theorem bd_ad_s (D : Nat → Nat) (b w : Nat) : bd_ad D b w b = D b + w := if_pos rfl
theorem bd_ad_n {D : Nat → Nat} {b w j : Nat} (h : j ≠ b) : bd_ad D b w j = D j := if_neg h
theorem bd_ad_comm (D : Nat → Nat) (a v b w : Nat) : bd_ad (bd_ad D a v) b w = bd_ad (bd_ad D b w) a v := by
  funext j
  by_cases h1 : j = a
  · subst h1
    by_cases h2 : j = b
    · subst h2
      rw [bd_ad_s, bd_ad_s, bd_ad_s, bd_ad_s]; omega
    · rw [bd_ad_n h2, bd_ad_s, bd_ad_s, bd_ad_n h2]
  · by_cases h2 : j = b
    · subst h2
      rw [bd_ad_s, bd_ad_n h1, bd_ad_n h1, bd_ad_s]
    · rw [bd_ad_n h2, bd_ad_n h1, bd_ad_n h1, bd_ad_n h2]
theorem bd_ad_ge (D : Nat → Nat) (b w j : Nat) : D j ≤ bd_ad D b w j := by
  unfold bd_ad; split <;> omega
def bd_CP (R m : Nat) : List Nat → (Nat → Nat) → Prop
  | [], D => ∀ b, b < m → D b ≤ R
  | w :: L, D => ∃ b, b < m ∧ bd_CP R m L (bd_ad D b w)
theorem bd_CP_mono {R R' m : Nat} (hR : R ≤ R') : ∀ (L : List Nat) {D E : Nat → Nat}, (∀ j, j < m → E j ≤ D j) → bd_CP R m L D → bd_CP R' m L E
  | [], _, _, h, c => fun b hb => Nat.le_trans (h b hb) (Nat.le_trans (c b hb) hR)
  | w :: L, D, E, h, ⟨b, hb, c⟩ => ⟨b, hb, bd_CP_mono hR L (fun j hj => by
      have := h j hj
      unfold bd_ad; split <;> omega) c⟩
theorem bd_CP_le {R m : Nat} : ∀ (L : List Nat) {D : Nat → Nat}, bd_CP R m L D → ∀ b, b < m → D b ≤ R
  | [], _, c => c
  | w :: L, D, ⟨a, _, c⟩ => fun b hb => Nat.le_trans (bd_ad_ge D a w b) (bd_CP_le L c b hb)
theorem bd_CP_perm {R m : Nat} {L L' : List Nat} (h : L.Perm L') : ∀ {D : Nat → Nat}, bd_CP R m L D → bd_CP R m L' D := by
  induction h with
  | nil => intro D c; exact c
  | cons x _ ih => intro D c; obtain ⟨b, hb, c⟩ := c; exact ⟨b, hb, ih c⟩
  | swap x y l => intro D c; obtain ⟨b, hb, a, ha, c⟩ := c; exact ⟨a, ha, b, hb, by rw [bd_ad_comm]; exact c⟩
  | trans _ _ ih1 ih2 => intro D c; exact ih2 (ih1 c)
def bd_sw (a b j : Nat) : Nat := if j = a then b else if j = b then a else j
theorem bd_sw_a (a b : Nat) : bd_sw a b a = b := if_pos rfl
theorem bd_sw_b (a b : Nat) : bd_sw a b b = a := by
  unfold bd_sw
  by_cases h : b = a
  · rw [if_pos h, h]
  · rw [if_neg h, if_pos rfl]
theorem bd_sw_o {a b j : Nat} (h1 : j ≠ a) (h2 : j ≠ b) : bd_sw a b j = j := by unfold bd_sw; rw [if_neg h1, if_neg h2]
theorem bd_sw_lt {a b m j : Nat} (ha : a < m) (hb : b < m) (hj : j < m) : bd_sw a b j < m := by
  unfold bd_sw
  split
  · exact hb
  · split
    · exact ha
    · exact hj
theorem bd_sw_sw (a b j : Nat) : bd_sw a b (bd_sw a b j) = j := by
  by_cases h1 : j = a
  · rw [h1, bd_sw_a, bd_sw_b]
  · by_cases h2 : j = b
    · rw [h2, bd_sw_b, bd_sw_a]
    · rw [bd_sw_o h1 h2, bd_sw_o h1 h2]
theorem bd_CP_sw {R m a b : Nat} (ha : a < m) (hb : b < m) : ∀ (L : List Nat) {D : Nat → Nat}, bd_CP R m L D → bd_CP R m L (fun j => D (bd_sw a b j))
  | [], _, c => fun _ hj => c _ (bd_sw_lt ha hb hj)
  | w :: L, D, ⟨k, hk, c⟩ => ⟨bd_sw a b k, bd_sw_lt ha hb hk, by
      have e : bd_ad (fun j => D (bd_sw a b j)) (bd_sw a b k) w = fun j => bd_ad D k w (bd_sw a b j) := by
        funext j
        unfold bd_ad
        by_cases h : j = bd_sw a b k
        · rw [if_pos h, if_pos (by rw [h, bd_sw_sw])]
        · rw [if_neg h, if_neg (fun z => h (by rw [← z, bd_sw_sw]))]
      rw [e]
      exact bd_CP_sw ha hb L c⟩
theorem bd_CP_seen {R m b c w : Nat} {L : List Nat} {D : Nat → Nat} (hb : b < m) (hc : c < m) (e : D c = D b) (h : bd_CP R m L (bd_ad D b w)) : bd_CP R m L (bd_ad D c w) := by
  refine bd_CP_mono (Nat.le_refl R) L (fun j _ => ?_) (bd_CP_sw hb hc L h)
  show bd_ad D c w j ≤ bd_ad D b w (bd_sw b c j)
  by_cases h1 : j = b
  · subst h1
    rw [bd_sw_a]
    by_cases h2 : j = c
    · subst h2; exact Nat.le_refl _
    · rw [bd_ad_n h2, bd_ad_n (fun z => h2 z.symm)]; omega
  · by_cases h2 : j = c
    · subst h2
      rw [bd_sw_b, bd_ad_s, bd_ad_s]; omega
    · exact Nat.le_of_eq (by rw [bd_sw_o h1 h2, bd_ad_n h1, bd_ad_n h2])
theorem bd_CP_up {R m : Nat} : ∀ (L : List Nat) {D : Nat → Nat}, D m ≤ R → bd_CP R m L D → bd_CP R (m + 1) L D
  | [], D, h, c => fun b hb => by
      rcases Nat.lt_or_ge b m with z | z
      · exact c b z
      · have e : b = m := by omega
        rw [e]; exact h
  | w :: L, D, h, ⟨b, hb, c⟩ => ⟨b, by omega, bd_CP_up L (by rw [bd_ad_n (by omega)]; exact h) c⟩
theorem bd_CP_ups {R m : Nat} (L : List Nat) {D : Nat → Nat} (hD : ∀ j, m ≤ j → D j ≤ R) (c : bd_CP R m L D) : ∀ m', m ≤ m' → bd_CP R m' L D := by
  intro m' h
  induction m' with
  | zero => have e : m = 0 := by omega
            rw [← e]; exact c
  | succ k ih =>
    rcases Nat.lt_or_ge k m with z | z
    · have e : m = k + 1 := by omega
      rw [← e]; exact c
    · exact bd_CP_up L (hD k z) (ih z)
def bd_sm (g : Nat → Nat) : Nat → Nat
  | 0 => 0
  | n + 1 => bd_sm g n + g n
theorem bd_sm_ext {g h : Nat → Nat} : ∀ n, (∀ j, j < n → g j = h j) → bd_sm g n = bd_sm h n
  | 0, _ => rfl
  | n + 1, e => by
    show bd_sm g n + g n = bd_sm h n + h n
    rw [bd_sm_ext n (fun j hj => e j (by omega)), e n (by omega)]
theorem bd_sm_ad {D : Nat → Nat} {b w : Nat} : ∀ m, b < m → bd_sm (bd_ad D b w) m = bd_sm D m + w
  | 0, h => by omega
  | m + 1, h => by
    show bd_sm (bd_ad D b w) m + bd_ad D b w m = bd_sm D m + D m + w
    rcases Nat.lt_or_ge b m with z | z
    · rw [bd_sm_ad m z, bd_ad_n (by omega)]; omega
    · have e : b = m := by omega
      subst e
      rw [bd_ad_s, bd_sm_ext (g := bd_ad D b w) (h := D) b (fun j hj => bd_ad_n (by omega))]; omega
theorem bd_sm_le {D : Nat → Nat} {R : Nat} : ∀ m, (∀ j, j < m → D j ≤ R) → bd_sm D m ≤ m * R
  | 0, _ => Nat.zero_le _
  | m + 1, h => by
    have h1 := bd_sm_le m (fun j hj => h j (by omega))
    have h2 := h m (by omega)
    show bd_sm D m + D m ≤ (m + 1) * R
    rw [Nat.add_mul]; omega
theorem bd_CP_sum {R m : Nat} : ∀ (L : List Nat) {D : Nat → Nat}, bd_CP R m L D → bd_sm D m + L.sum ≤ m * R
  | [], D, c => by
    have := bd_sm_le m c
    simpa using this
  | w :: L, D, ⟨b, hb, c⟩ => by
    have h := bd_CP_sum L c
    rw [bd_sm_ad m hb] at h
    rw [List.sum_cons]; omega
theorem bd_CP_sim {R R' m : Nat} (J : Nat → Nat → Prop) (φ : Nat → Nat) (hs : ∀ x y w, J x y → x + w ≤ R → J (x + w) (y + φ w)) (hR : ∀ x y, J x y → y ≤ R') :
    ∀ (L : List Nat) {D E : Nat → Nat}, (∀ j, j < m → J (D j) (E j)) → bd_CP R m L D → bd_CP R' m (L.map φ) E
  | [], _, _, h, _ => fun b hb => hR _ _ (h b hb)
  | w :: L, D, E, h, ⟨b, hb, c⟩ => ⟨b, hb, bd_CP_sim J φ hs hR L (fun j hj => by
      by_cases e : j = b
      · subst e
        rw [bd_ad_s, bd_ad_s]
        have z := bd_CP_le L c j hj
        rw [bd_ad_s] at z
        exact hs _ _ _ (h j hj) z
      · rw [bd_ad_n e, bd_ad_n e]; exact h j hj) c⟩
/-! the bound with a limit of smallness -/
def bd_A (R q : Nat) : List Nat → Nat
  | [] => 0
  | w :: L => (if w ≤ R - q then 0 else 1) + bd_A R q L
def bd_H (R q : Nat) : List Nat → Nat
  | [] => 0
  | w :: L => (if w ≤ R - q then (if 2 * w ≤ R then 0 else 1) else 0) + bd_H R q L
def bd_S (R q : Nat) : List Nat → Nat
  | [] => 0
  | w :: L => (if w ≤ R - q then (if 2 * w ≤ R then 0 else w) else 0) + bd_S R q L
def bd_M (R q : Nat) : List Nat → Nat
  | [] => 0
  | w :: L => (if w ≤ R - q then (if 2 * w ≤ R then (if w < q then 0 else w) else 0) else 0) + bd_M R q L
def bd_cl (a b R : Nat) : Nat := (a - b + (R - 1)) / R
def bd_bw (R q : Nat) (W : List Nat) : Nat := bd_A R q W + bd_H R q W + bd_cl (bd_M R q W) (bd_H R q W * R - bd_S R q W) R
def bd_f1 (R q w : Nat) : Nat := if w ≤ R - q then (if 2 * w ≤ R then (if w < q then 0 else w) else w) else R
def bd_f2 (R w : Nat) : Nat := if 2 * w ≤ R then 0 else 1
theorem bd_f1_sum (R q : Nat) : ∀ W : List Nat, (W.map (bd_f1 R q)).sum = R * bd_A R q W + bd_S R q W + bd_M R q W
  | [] => by simp [bd_A, bd_S, bd_M]
  | w :: L => by
    rw [List.map_cons, List.sum_cons, bd_f1_sum R q L]
    simp only [bd_A, bd_S, bd_M, bd_f1, Nat.mul_add]
    split
    · split
      · split <;> omega
      · omega
    · omega
theorem bd_f2_sum (R q : Nat) (hq : 2 * q ≤ R) : ∀ W : List Nat, (W.map (bd_f2 R)).sum = bd_A R q W + bd_H R q W
  | [] => by simp [bd_A, bd_H]
  | w :: L => by
    rw [List.map_cons, List.sum_cons, bd_f2_sum R q hq L]
    simp only [bd_A, bd_H, bd_f2]
    by_cases h1 : w ≤ R - q
    · rw [if_pos h1, if_pos h1]; omega
    · rw [if_neg h1, if_neg h1, if_neg (by omega)]; omega
theorem bd_S_le (R q : Nat) : ∀ W : List Nat, bd_S R q W ≤ bd_H R q W * R
  | [] => Nat.zero_le _
  | w :: L => by
    have := bd_S_le R q L
    simp only [bd_S, bd_H, Nat.add_mul]
    split
    · split
      · omega
      · omega
    · omega
theorem bd_cl_le {a b R c : Nat} (hR : 0 < R) (h : a ≤ b + c * R) : bd_cl a b R ≤ c := by
  unfold bd_cl
  apply Nat.le_of_lt_succ
  rw [Nat.div_lt_iff_lt_mul hR, Nat.succ_mul]
  omega
theorem bd_bw_le {R q m : Nat} {W : List Nat} (hR : 0 < R) (hq : 2 * q ≤ R) (c : bd_CP R m W (fun _ => 0)) : bd_bw R q W ≤ m := by
  have c1 := bd_CP_sum _ (bd_CP_sim (R' := R) (fun x y => (y ≤ x ∧ x ≤ R ∧ (y = 0 ∨ q ≤ y)) ∨ (y = R ∧ R - q < x)) (bd_f1 R q) (by
    intro x y w h hx
    unfold bd_f1
    split
    · split
      · split <;> omega
      · omega
    · omega) (by intro x y h; omega) W (E := fun _ => 0) (fun j _ => Or.inl ⟨Nat.le_refl _, Nat.zero_le _, Or.inl rfl⟩) c)
  have c2 := bd_CP_sum _ (bd_CP_sim (R' := 1) (fun x y => y = 0 ∨ (y = 1 ∧ R < 2 * x)) (bd_f2 R) (by
    intro x y w h hx
    unfold bd_f2
    split <;> omega) (by intro x y h; omega) W (E := fun _ => 0) (fun j _ => Or.inl rfl) c)
  rw [bd_f1_sum] at c1
  rw [bd_f2_sum R q hq] at c2
  have c3 := bd_S_le R q W
  have hAH : bd_A R q W + bd_H R q W ≤ m := by omega
  obtain ⟨k, hk⟩ : ∃ k, m = bd_A R q W + bd_H R q W + k := ⟨m - (bd_A R q W + bd_H R q W), by omega⟩
  unfold bd_bw
  have : bd_cl (bd_M R q W) (bd_H R q W * R - bd_S R q W) R ≤ k := by
    apply bd_cl_le hR
    rw [hk, Nat.add_mul, Nat.add_mul, Nat.mul_comm (bd_A R q W) R] at c1
    omega
  omega
/-! loads as items -/
def bd_wl (D : Nat → Nat) : Nat → List Nat
  | 0 => []
  | o + 1 => bd_wl D o ++ [D o]
theorem bd_wl_len (D : Nat → Nat) : ∀ o, (bd_wl D o).length = o
  | 0 => rfl
  | o + 1 => by simp [bd_wl, bd_wl_len D o]
theorem bd_CP_wl {R m : Nat} {L : List Nat} {D : Nat → Nat} (c : bd_CP R m L D) : ∀ o, o ≤ m → bd_CP R m (bd_wl D o ++ L) (fun j => if j < o then 0 else D j)
  | 0, _ => bd_CP_mono (Nat.le_refl R) L (fun j _ => by rw [if_neg (by omega)]; exact Nat.le_refl _) c
  | o + 1, h => by
    have ih := bd_CP_wl c o (by omega)
    have p : List.Perm (D o :: (bd_wl D o ++ L)) (bd_wl D (o + 1) ++ L) := by
      show List.Perm (D o :: (bd_wl D o ++ L)) ((bd_wl D o ++ [D o]) ++ L)
      rw [List.append_assoc]
      exact List.perm_middle.symm
    refine bd_CP_perm p ⟨o, by omega, bd_CP_mono (Nat.le_refl R) _ (fun j _ => ?_) ih⟩
    by_cases e : j = o
    · subst e
      rw [bd_ad_s]
      rw [if_pos (by omega), if_neg (by omega)]; omega
    · rw [bd_ad_n e]
      by_cases h2 : j < o
      · rw [if_pos (by omega), if_pos h2]; exact Nat.le_refl _
      · rw [if_neg (by omega), if_neg h2]; exact Nat.le_refl _
theorem bd_lb {R q m o : Nat} {L : List Nat} {D : Nat → Nat} (hR : 0 < R) (hq : 2 * q ≤ R) (hD : ∀ j, o ≤ j → D j = 0) (ho : o ≤ m) (c : bd_CP R m L D) : bd_bw R q (bd_wl D o ++ L) ≤ m := by
  refine bd_bw_le hR hq (bd_CP_mono (Nat.le_refl R) _ (fun j _ => ?_) (bd_CP_wl c o ho))
  exact Nat.zero_le _
/-- the least number of bins, those in use counted -/
def bd_Op (R : Nat) (L : List Nat) (o : Nat) (D : Nat → Nat) (m : Nat) : Prop := o ≤ m ∧ bd_CP R m L D ∧ ∀ m', o ≤ m' → bd_CP R m' L D → m ≤ m'
theorem bd_Op_perm {R o m : Nat} {L L' : List Nat} {D : Nat → Nat} (p : L.Perm L') (h : bd_Op R L o D m) : bd_Op R L' o D m :=
  ⟨h.1, bd_CP_perm p h.2.1, fun m' h1 h2 => h.2.2 m' h1 (bd_CP_perm p.symm h2)⟩
theorem bd_Op_u {R o m m' : Nat} {L : List Nat} {D : Nat → Nat} (h : bd_Op R L o D m) (h' : bd_Op R L o D m') : m = m' :=
  Nat.le_antisymm (h.2.2 _ h'.1 h'.2.1) (h'.2.2 _ h.1 h.2.1)
end
section
/-! ===== neat packings in the dictionary order ===== -/
def bd_en : Nat → Nat → List (List Nat)
  | _, 0 => [[]]
  | g, r + 1 => (List.range (g + 1)).flatMap (fun b => (bd_en (max g (b + 1)) r).map (fun t => b :: t))
def bd_ct : Nat → List Nat → Nat
  | g, [] => g
  | g, b :: t => bd_ct (max g (b + 1)) t
def bd_ld : List Nat → List Nat → Nat → Nat
  | c :: f, w :: L, b => (if c = b then w else 0) + bd_ld f L b
  | _, _, _ => 0
def bd_nx : Nat → List Nat → Option (List Nat)
  | _, [] => none
  | g, b :: t => match bd_nx (max g (b + 1)) t with
    | some t' => some (b :: t')
    | none => if b < g then some ((b + 1) :: List.replicate t.length 0) else none
theorem bd_en_mem {g r b : Nat} {t : List Nat} (hb : b ≤ g) (h : t ∈ bd_en (max g (b + 1)) r) : b :: t ∈ bd_en g (r + 1) := by
  show b :: t ∈ (List.range (g + 1)).flatMap _
  rw [List.mem_flatMap]
  exact ⟨b, List.mem_range.mpr (by omega), List.mem_map.mpr ⟨t, h, rfl⟩⟩
theorem bd_en_inv {g r : Nat} {y : List Nat} (h : y ∈ bd_en g (r + 1)) : ∃ b t, y = b :: t ∧ b ≤ g ∧ t ∈ bd_en (max g (b + 1)) r := by
  have h' : y ∈ (List.range (g + 1)).flatMap (fun b => (bd_en (max g (b + 1)) r).map (fun t => b :: t)) := h
  rw [List.mem_flatMap] at h'
  obtain ⟨b, hb, hy⟩ := h'
  obtain ⟨t, ht, e⟩ := List.mem_map.mp hy
  have := List.mem_range.mp hb
  exact ⟨b, t, e.symm, by omega, ht⟩
theorem bd_en_len : ∀ (r g : Nat) {y : List Nat}, y ∈ bd_en g r → y.length = r
  | 0, g, y, h => by
    have h' : y ∈ [([] : List Nat)] := h
    rw [List.mem_singleton.mp h']; rfl
  | r + 1, g, y, h => by
    obtain ⟨b, t, rfl, _, ht⟩ := bd_en_inv h
    rw [List.length_cons, bd_en_len r _ ht]
theorem bd_ct_ge : ∀ (y : List Nat) (g : Nat), g ≤ bd_ct g y
  | [], g => Nat.le_refl g
  | b :: t, g => Nat.le_trans (Nat.le_max_left g (b + 1)) (bd_ct_ge t _)
theorem bd_ct_mem : ∀ (y : List Nat) (g : Nat) {c : Nat}, c ∈ y → c < bd_ct g y
  | b :: t, g, c, h => by
    rcases List.mem_cons.mp h with e | e
    · subst e
      exact Nat.lt_of_lt_of_le (Nat.lt_of_succ_le (Nat.le_max_right g (c + 1))) (bd_ct_ge t _)
    · exact bd_ct_mem t _ e
theorem bd_ct_le : ∀ (y : List Nat) {g m : Nat}, g ≤ m → (∀ c, c ∈ y → c < m) → bd_ct g y ≤ m
  | [], _, _, h, _ => h
  | b :: t, g, m, h, hc => by
    have h1 := hc b (List.mem_cons_self ..)
    exact bd_ct_le t (Nat.max_le.mpr ⟨h, h1⟩) (fun c z => hc c (List.mem_cons_of_mem _ z))
theorem bd_ct_en : ∀ (r g : Nat) {y : List Nat}, y ∈ bd_en g r → bd_ct g y ≤ g + r
  | 0, g, y, h => by
    have h' : y ∈ [([] : List Nat)] := h
    rw [List.mem_singleton.mp h']; exact Nat.le_refl _
  | r + 1, g, y, h => by
    obtain ⟨b, t, rfl, hb, ht⟩ := bd_en_inv h
    have h1 := bd_ct_en r _ ht
    show bd_ct (max g (b + 1)) t ≤ _
    omega
theorem bd_ct_app : ∀ (p t : List Nat) (g : Nat), bd_ct g (p ++ t) = bd_ct (bd_ct g p) t
  | [], _, _ => rfl
  | b :: p, t, g => bd_ct_app p t (max g (b + 1))
theorem bd_ld_app : ∀ (p P t T : List Nat) (b : Nat), p.length = P.length → bd_ld (p ++ t) (P ++ T) b = bd_ld p P b + bd_ld t T b
  | [], [], t, T, b, _ => by simp [bd_ld]
  | c :: p, w :: P, t, T, b, h => by
    have ih := bd_ld_app p P t T b (by simpa using h)
    show (if c = b then w else 0) + bd_ld (p ++ t) (P ++ T) b = (if c = b then w else 0) + bd_ld p P b + bd_ld t T b
    omega
theorem bd_ld_no : ∀ (f L : List Nat) (b : Nat), b ∉ f → bd_ld f L b = 0
  | [], _, _, _ => rfl
  | c :: f, [], _, _ => rfl
  | c :: f, w :: L, b, h => by
    have h1 : ¬ c = b := fun z => h (by rw [z]; exact List.mem_cons_self ..)
    show (if c = b then w else 0) + bd_ld f L b = 0
    rw [if_neg h1, bd_ld_no f L b (fun z => h (List.mem_cons_of_mem _ z))]
theorem bd_ld_le : ∀ (f L : List Nat) (b : Nat), bd_ld f L b ≤ L.sum
  | [], _, _ => Nat.zero_le _
  | c :: f, [], _ => Nat.zero_le _
  | c :: f, w :: L, b => by
    have := bd_ld_le f L b
    show (if c = b then w else 0) + bd_ld f L b ≤ (w :: L).sum
    rw [List.sum_cons]
    split <;> omega
/-! a packing as a list of bins -/
theorem bd_CP_asg {R m : Nat} : ∀ (L : List Nat) {D : Nat → Nat}, bd_CP R m L D → ∃ f : List Nat, f.length = L.length ∧ (∀ c, c ∈ f → c < m) ∧ ∀ b, b < m → D b + bd_ld f L b ≤ R
  | [], D, c => ⟨[], rfl, fun c hc => absurd hc List.not_mem_nil, fun b hb => c b hb⟩
  | w :: L, D, ⟨a, ha, c⟩ => by
    obtain ⟨f, h1, h2, h3⟩ := bd_CP_asg L c
    refine ⟨a :: f, by rw [List.length_cons, h1, List.length_cons], fun c hc => ?_, fun b hb => ?_⟩
    · rcases List.mem_cons.mp hc with e | e
      · rw [e]; exact ha
      · exact h2 c e
    · have := h3 b hb
      show D b + ((if a = b then w else 0) + bd_ld f L b) ≤ R
      unfold bd_ad at this
      by_cases e : a = b
      · rw [if_pos e.symm] at this; rw [if_pos e]; omega
      · rw [if_neg (fun z => e z.symm)] at this; rw [if_neg e]; omega
theorem bd_asg_CP {R m : Nat} : ∀ (f L : List Nat) {D : Nat → Nat}, f.length = L.length → (∀ c, c ∈ f → c < m) → (∀ b, b < m → D b + bd_ld f L b ≤ R) → bd_CP R m L D
  | [], [], D, _, _, h => fun b hb => h b hb
  | a :: f, w :: L, D, hl, hc, h => ⟨a, hc a (List.mem_cons_self ..), bd_asg_CP f L (by simpa using hl) (fun c z => hc c (List.mem_cons_of_mem _ z)) (fun b hb => by
      have := h b hb
      have h2 : bd_ld (a :: f) (w :: L) b = (if a = b then w else 0) + bd_ld f L b := rfl
      rw [h2] at this
      unfold bd_ad
      by_cases e : a = b
      · rw [if_pos e] at this; rw [if_pos e.symm]; omega
      · rw [if_neg e] at this; rw [if_neg (fun z => e z.symm)]; omega)⟩
/-! renaming of bins: every packing is a neat one -/
theorem bd_norm1 {m : Nat} : ∀ (k : Nat) (f : List Nat) (g : Nat), f.length = k → g ≤ m → (∀ c, c ∈ f → c < m) →
    ∃ ρ σ : Nat → Nat, (∀ j, j < m → ρ j < m ∧ σ j < m) ∧ (∀ j, ρ (σ j) = j) ∧ (∀ j, σ (ρ j) = j) ∧ (∀ j, j < g → ρ j = j) ∧ f.map ρ ∈ bd_en g f.length := by
  intro k
  induction k with
  | zero =>
    intro f g hk _ _
    have e : f = [] := List.eq_nil_of_length_eq_zero hk
    subst e
    exact ⟨id, id, fun j h => ⟨h, h⟩, fun _ => rfl, fun _ => rfl, fun _ _ => rfl, List.mem_singleton.mpr rfl⟩
  | succ k ih =>
    intro f g hk hg hc
    cases f with
    | nil => cases hk
    | cons c t =>
    rw [List.length_cons] at hk
    have hcm := hc c (List.mem_cons_self ..)
    rcases Nat.lt_or_ge c g with z | z
    · obtain ⟨ρ, σ, h1, h2, h3, h4, h5⟩ := ih t g (by omega) hg (fun d hd => hc d (List.mem_cons_of_mem _ hd))
      refine ⟨ρ, σ, h1, h2, h3, h4, ?_⟩
      rw [List.map_cons, List.length_cons, h4 c z]
      refine bd_en_mem (by omega) ?_
      rw [Nat.max_eq_left (by omega)]; exact h5
    · have hgm : g < m := by omega
      obtain ⟨ρ, σ, h1, h2, h3, h4, h5⟩ := ih (t.map (bd_sw c g)) (g + 1) (by rw [List.length_map]; omega) hgm (fun d hd => by
        obtain ⟨d', hd', e⟩ := List.mem_map.mp hd
        rw [← e]
        exact bd_sw_lt hcm hgm (hc d' (List.mem_cons_of_mem _ hd')))
      refine ⟨fun j => ρ (bd_sw c g j), fun j => bd_sw c g (σ j), fun j hj => ⟨(h1 _ (bd_sw_lt hcm hgm hj)).1, bd_sw_lt hcm hgm (h1 j hj).2⟩, fun j => ?_, fun j => ?_, fun j hj => ?_, ?_⟩
      · show ρ (bd_sw c g (bd_sw c g (σ j))) = j
        rw [bd_sw_sw, h2]
      · show bd_sw c g (σ (ρ (bd_sw c g j))) = j
        rw [h3, bd_sw_sw]
      · show ρ (bd_sw c g j) = j
        rw [bd_sw_o (by omega) (by omega), h4 j (by omega)]
      · rw [List.map_cons, List.length_cons]
        have e1 : ρ (bd_sw c g c) = g := by rw [bd_sw_a, h4 g (by omega)]
        show ρ (bd_sw c g c) :: _ ∈ _
        rw [e1]
        refine bd_en_mem (Nat.le_refl g) ?_
        rw [Nat.max_eq_right (by omega)]
        rw [List.length_map, List.map_map] at h5
        exact h5
theorem bd_norm {m : Nat} (f : List Nat) (g : Nat) (hg : g ≤ m) (hc : ∀ c, c ∈ f → c < m) :
    ∃ ρ σ : Nat → Nat, (∀ j, j < m → ρ j < m ∧ σ j < m) ∧ (∀ j, ρ (σ j) = j) ∧ (∀ j, σ (ρ j) = j) ∧ (∀ j, j < g → ρ j = j) ∧ f.map ρ ∈ bd_en g f.length := bd_norm1 f.length f g rfl hg hc
theorem bd_ld_map {ρ σ : Nat → Nat} (h3 : ∀ j, σ (ρ j) = j) : ∀ (f L : List Nat) (b : Nat), bd_ld (f.map ρ) L (ρ b) = bd_ld f L b
  | [], _, _ => rfl
  | c :: f, [], _ => rfl
  | c :: f, w :: L, b => by
    show (if ρ c = ρ b then w else 0) + bd_ld (f.map ρ) L (ρ b) = (if c = b then w else 0) + bd_ld f L b
    rw [bd_ld_map h3 f L b]
    by_cases e : c = b
    · rw [if_pos e, if_pos (by rw [e])]
    · rw [if_neg e, if_neg (fun z => e (by rw [← h3 c, z, h3]))]
/-- a packing on top of loads in the bins below g, renamed to a neat one -/
theorem bd_CP_en {R m g : Nat} {L : List Nat} {D : Nat → Nat} (hg : g ≤ m) (hD : ∀ j, g ≤ j → D j = 0) (c : bd_CP R m L D) :
    ∃ y, y ∈ bd_en g L.length ∧ bd_ct g y ≤ m ∧ ∀ b, b < m → D b + bd_ld y L b ≤ R := by
  obtain ⟨f, h1, h2, h3⟩ := bd_CP_asg L c
  obtain ⟨ρ, σ, n1, n2, n3, n4, n5⟩ := bd_norm f g hg h2
  refine ⟨f.map ρ, by rw [← h1]; exact n5, bd_ct_le _ hg (fun d hd => ?_), fun b hb => ?_⟩
  · obtain ⟨d', hd', e⟩ := List.mem_map.mp hd
    rw [← e]; exact (n1 _ (h2 d' hd')).1
  · have e : b = ρ (σ b) := (n2 b).symm
    have h := h3 (σ b) (n1 b hb).2
    have hd : D b = D (σ b) := by
      rcases Nat.lt_or_ge (σ b) g with z | z
      · have := n4 _ z
        rw [n2] at this; rw [← this]
      · rcases Nat.lt_or_ge b g with z' | z'
        · have := n4 _ z'
          rw [← this, n3] at z
          omega
        · rw [hD _ z, hD _ z']
    have hl : bd_ld (f.map ρ) L b = bd_ld f L (σ b) := by
      have := bd_ld_map (ρ := ρ) (σ := σ) n3 f L (σ b)
      rw [n2] at this; exact this
    rw [hl, hd]; exact h
theorem bd_en_CP {R m g : Nat} {L : List Nat} {D : Nat → Nat} {y : List Nat} (hy : y ∈ bd_en g L.length) (hm : bd_ct g y ≤ m) (h : ∀ b, b < m → D b + bd_ld y L b ≤ R) : bd_CP R m L D :=
  bd_asg_CP y L (bd_en_len _ _ hy) (fun _ hc => Nat.lt_of_lt_of_le (bd_ct_mem y g hc) hm) h
/-! the order -/
def bd_Ch (N : List Nat → Option (List Nat)) : List (List Nat) → Option (List Nat) → Prop
  | [], _ => False
  | [x], e => N x = e
  | x :: y :: l, e => N x = some y ∧ bd_Ch N (y :: l) e
theorem bd_Ch_app {N : List Nat → Option (List Nat)} {y : List Nat} {l2 : List (List Nat)} {e : Option (List Nat)} (h2 : bd_Ch N (y :: l2) e) : ∀ (l1 : List (List Nat)), bd_Ch N l1 (some y) → bd_Ch N (l1 ++ y :: l2) e
  | [], h => h.elim
  | [x], h => ⟨h, h2⟩
  | x :: z :: l, h => ⟨h.1, bd_Ch_app h2 (z :: l) h.2⟩
theorem bd_nx_some {g b : Nat} {t t' : List Nat} (h : bd_nx (max g (b + 1)) t = some t') : bd_nx g (b :: t) = some (b :: t') := by
  rw [bd_nx, h]
theorem bd_nx_none {g b : Nat} {t : List Nat} (h : bd_nx (max g (b + 1)) t = none) : bd_nx g (b :: t) = if b < g then some ((b + 1) :: List.replicate t.length 0) else none := by
  rw [bd_nx, h]
theorem bd_Ch_blk {g b r : Nat} : ∀ (l : List (List Nat)), (∀ t, t ∈ l → t.length = r) → bd_Ch (bd_nx (max g (b + 1))) l none →
    bd_Ch (bd_nx g) (l.map (fun t => b :: t)) (if b < g then some ((b + 1) :: List.replicate r 0) else none)
  | [], _, h => h.elim
  | [x], hl, h => by
    show bd_nx g (b :: x) = _
    rw [bd_nx_none h, hl x (List.mem_singleton.mpr rfl)]
  | x :: z :: l, hl, h => ⟨bd_nx_some h.1, bd_Ch_blk (z :: l) (fun t ht => hl t (List.mem_cons_of_mem _ ht)) h.2⟩
theorem bd_en_hd : ∀ (r g : Nat), ∃ l, bd_en g r = List.replicate r 0 :: l
  | 0, _ => ⟨[], rfl⟩
  | r + 1, g => by
    obtain ⟨l, hl⟩ := bd_en_hd r (max g (0 + 1))
    have e : bd_en g (r + 1) = (List.range (g + 1)).flatMap (fun b => (bd_en (max g (b + 1)) r).map (fun t => b :: t)) := rfl
    rw [List.range_succ_eq_map, List.flatMap_cons, hl, List.map_cons, List.cons_append] at e
    exact ⟨_, e⟩
theorem bd_Ch_en : ∀ (r g : Nat), bd_Ch (bd_nx g) (bd_en g r) none
  | 0, _ => rfl
  | r + 1, g => by
    have key : ∀ k, k ≤ g → bd_Ch (bd_nx g) ((List.range (k + 1)).flatMap (fun b => (bd_en (max g (b + 1)) r).map (fun t => b :: t))) (if k < g then some ((k + 1) :: List.replicate r 0) else none) := by
      intro k
      induction k with
      | zero =>
        intro _
        have h := bd_Ch_blk (g := g) (b := 0) (r := r) (bd_en (max g (0 + 1)) r) (fun t ht => bd_en_len _ _ ht) (bd_Ch_en r _)
        have e : (List.range (0 + 1)).flatMap (fun b => (bd_en (max g (b + 1)) r).map (fun t => b :: t)) = (bd_en (max g (0 + 1)) r).map (fun t => 0 :: t) := by
          show List.flatMap _ [0] = _
          rw [List.flatMap_cons, List.flatMap_nil, List.append_nil]
        rw [e]; exact h
      | succ k ih =>
        intro hk
        have h1 := ih (by omega)
        rw [if_pos (by omega)] at h1
        have h := bd_Ch_blk (g := g) (b := k + 1) (r := r) (bd_en (max g (k + 1 + 1)) r) (fun t ht => bd_en_len _ _ ht) (bd_Ch_en r _)
        obtain ⟨l, hl⟩ := bd_en_hd r (max g (k + 1 + 1))
        rw [List.range_succ, List.flatMap_append, List.flatMap_cons, List.flatMap_nil, List.append_nil]
        rw [hl, List.map_cons] at h ⊢
        exact bd_Ch_app h _ h1
    have := key g (Nat.le_refl g)
    rw [if_neg (Nat.lt_irrefl g)] at this
    exact this
/-! how many there are -/
def bd_bl : Nat → Nat → Nat
  | _, 0 => 1
  | g, r + 1 => g * bd_bl g r + bd_bl (g + 1) r
theorem bd_fm_len {α β : Type} {f : α → List β} {k : Nat} : ∀ (l : List α), (∀ a, a ∈ l → (f a).length = k) → (l.flatMap f).length = l.length * k
  | [], _ => by simp
  | a :: l, h => by
    rw [List.flatMap_cons, List.length_append, h a (List.mem_cons_self ..), bd_fm_len l (fun b hb => h b (List.mem_cons_of_mem _ hb)), List.length_cons, Nat.succ_mul]
    omega
theorem bd_en_cnt : ∀ (r g : Nat), (bd_en g r).length = bd_bl g r
  | 0, _ => rfl
  | r + 1, g => by
    show ((List.range (g + 1)).flatMap (fun b => (bd_en (max g (b + 1)) r).map (fun t => b :: t))).length = g * bd_bl g r + bd_bl (g + 1) r
    rw [List.range_succ, List.flatMap_append, List.length_append, bd_fm_len (k := bd_bl g r) (List.range g) (fun b hb => by
      have := List.mem_range.mp hb
      rw [List.length_map, Nat.max_eq_left (by omega), bd_en_cnt r g]), List.length_range]
    rw [List.flatMap_cons, List.flatMap_nil, List.append_nil, List.length_map, Nat.max_eq_right (by omega), bd_en_cnt r (g + 1)]
theorem bd_bl8 : ∀ n, n < 9 → bd_bl 0 n ≤ 4140 := by decide +kernel
theorem bd_en8 {n : Nat} (h : n ≤ 8) : (bd_en 0 n).length ≤ 4140 := by
  rw [bd_en_cnt]; exact bd_bl8 n (by omega)
/-! the successor, from behind -/
theorem bd_nx_app : ∀ (p t : List Nat) (g : Nat), bd_nx g (p ++ t) = match bd_nx (bd_ct g p) t with
    | some t' => some (p ++ t')
    | none => (bd_nx g p).map (fun q => q ++ List.replicate t.length 0)
  | [], t, g => by
    show bd_nx g t = match bd_nx g t with | some t' => some t' | none => none
    cases bd_nx g t <;> rfl
  | b :: p, t, g => by
    have ih := bd_nx_app p t (max g (b + 1))
    show bd_nx g (b :: (p ++ t)) = match bd_nx (bd_ct (max g (b + 1)) p) t with | some t' => some (b :: p ++ t') | none => (bd_nx g (b :: p)).map (fun q => q ++ List.replicate t.length 0)
    cases h : bd_nx (bd_ct (max g (b + 1)) p) t with
    | some t' =>
      rw [h] at ih
      rw [bd_nx_some ih]; rfl
    | none =>
      rw [h] at ih
      cases h2 : bd_nx (max g (b + 1)) p with
      | some q =>
        rw [h2] at ih
        rw [bd_nx_some ih, bd_nx_some h2]; rfl
      | none =>
        rw [h2] at ih
        rw [bd_nx_none ih, bd_nx_none h2]
        by_cases z : b < g
        · rw [if_pos z, if_pos z]
          show some _ = some _
          rw [List.length_append, ← List.replicate_append_replicate]; rfl
        · rw [if_neg z, if_neg z]; rfl
end
section
/-! ===== numbers, bits, arrays as lists ===== -/
theorem bd_b1 : ∀ i, i < 32 → bt 1 i = decide (i = 0) := by decide +kernel
theorem bd_bit (x : Int32) (j : Nat) (hj : j < 32) : ((x >>> (nI j &&& 31)) &&& 1) = 0 ↔ bt x j = false := by
  constructor
  · intro h
    have h1 : bt ((x >>> (nI j &&& 31)) &&& 1) 0 = false := by rw [h]; exact b_0 0
    rw [b_and, b_sshr j hj x (by decide), bd_b1 0 (by decide)] at h1
    simpa [hj] using h1
  · intro h
    apply b_ext
    intro i hi
    rw [b_and, bd_b1 i hi, b_0]
    by_cases e : i = 0
    · subst e
      rw [b_sshr j hj x (by decide)]
      simp [hj, h]
    · simp [e]
theorem bd_one (k : Nat) (hk : k < 32) {i : Nat} (hi : i < 32) : bt ((1 : Int32) <<< (nI k &&& 31)) i = decide (i = k) := by
  rw [b_shl k hk 1 hi, bd_b1 (i - k) (by omega)]
  by_cases h : i = k
  · subst h; simp
  · by_cases h2 : k ≤ i
    · simp [h, h2]; omega
    · simp [h, h2]
theorem bd_not (k : Nat) (hk : k < 32) {i : Nat} (hi : i < 32) : bt (((1 : Int32) <<< (nI k &&& 31)) ^^^ (-1)) i = !decide (i = k) := by
  rw [b_xor, bd_one k hk hi, b_m1 i hi]; simp
theorem bd_by16 : ∀ c, c < 64 → (nI c).toInt8.toInt32 = nI c := by decide +kernel
theorem bd_by {c : Nat} (h : c < 64) : vp_nar .byte (nI c).toInt8.toInt32 = nI c := by rw [pk_vb, bd_by16 c h]
theorem bd_bm : vp_nar .byte (-1) = -1 := by rw [vp_nar_byte]; decide
theorem bd_bmm : vp_nar .byte (-1 : Int32).toInt8.toInt32 = -1 := by rw [pk_vb]; decide
theorem bd_m1 : (-1 : Int32) < 0 := by decide
/-- the array a holds L from off on -/
def bd_Al (a : Nat → Int32) : Nat → List Nat → Prop
  | _, [] => True
  | k, w :: L => a k = nI w ∧ bd_Al a (k + 1) L
theorem bd_Al_app {a : Nat → Int32} : ∀ (p q : List Nat) (k : Nat), bd_Al a k (p ++ q) ↔ bd_Al a k p ∧ bd_Al a (k + p.length) q
  | [], q, k => ⟨fun h => ⟨trivial, h⟩, fun h => h.2⟩
  | w :: p, q, k => by
    have ih := bd_Al_app (a := a) p q (k + 1)
    have e : k + 1 + p.length = k + (w :: p).length := by rw [List.length_cons]; omega
    rw [e] at ih
    exact ⟨fun h => ⟨⟨h.1, (ih.mp h.2).1⟩, (ih.mp h.2).2⟩, fun h => ⟨h.1.1, ih.mpr ⟨h.1.2, h.2⟩⟩⟩
theorem bd_Al_ext {a b : Nat → Int32} : ∀ (L : List Nat) (k : Nat), (∀ j, k ≤ j → j < k + L.length → b j = a j) → bd_Al a k L → bd_Al b k L
  | [], _, _, _ => trivial
  | w :: L, k, e, h => ⟨(e k (Nat.le_refl k) (by rw [List.length_cons]; omega)).trans h.1, bd_Al_ext L (k + 1) (fun j h1 h2 => e j (by omega) (by rw [List.length_cons]; omega)) h.2⟩
theorem bd_Al_lo {a : Nat → Int32} {x : Int32} {i k : Nat} {L : List Nat} (h : i < k) (hA : bd_Al a k L) : bd_Al (upd a i x) k L :=
  bd_Al_ext L k (fun _ h1 _ => pk_un (by omega)) hA
theorem bd_Al_hi {a : Nat → Int32} {x : Int32} {i k : Nat} {L : List Nat} (h : k + L.length ≤ i) (hA : bd_Al a k L) : bd_Al (upd a i x) k L :=
  bd_Al_ext L k (fun _ _ h2 => pk_un (by omega)) hA
theorem bd_Al_put {a : Nat → Int32} {w i k : Nat} {L : List Nat} (hi : i = k + L.length) (hA : bd_Al a k L) : bd_Al (upd a i (nI w)) k (L ++ [w]) := by
  rw [bd_Al_app]
  refine ⟨bd_Al_hi (by omega) hA, ?_, trivial⟩
  rw [← hi]; exact pk_us
theorem bd_Al_get {a : Nat → Int32} : ∀ (L : List Nat) (k i : Nat), i < L.length → bd_Al a k L → a (k + i) = nI (L.getD i 0)
  | [], _, i, h, _ => absurd h (Nat.not_lt_zero i)
  | w :: L, k, 0, _, hA => hA.1
  | w :: L, k, i + 1, h, hA => by
    have := bd_Al_get L (k + 1) i (by simpa using h) hA.2
    rw [show k + (i + 1) = k + 1 + i from by omega, this]; rfl
def bd_Ag (a : Nat → Int32) (D : Nat → Nat) : Prop := ∀ j, j < 16 → a j = nI (D j)
theorem bd_Ag_ad {a : Nat → Int32} {D : Nat → Nat} {b w : Nat} (h : bd_Ag a D) : bd_Ag (upd a b (nI (D b + w))) (bd_ad D b w) := by
  intro j hj
  by_cases e : j = b
  · subst e; rw [pk_us, bd_ad_s]
  · rw [pk_un e, bd_ad_n e]; exact h j hj
theorem bd_Ag_sb {a : Nat → Int32} {D : Nat → Nat} {b w : Nat} (h : bd_Ag a (bd_ad D b w)) : bd_Ag (upd a b (nI (D b))) D := by
  intro j hj
  by_cases e : j = b
  · subst e; rw [pk_us]
  · have := h j hj
    rw [bd_ad_n e] at this
    rw [pk_un e]; exact this
theorem bd_fu {n d : Nat} (h : d < n) : ∃ k, n = k + 1 ∧ d ≤ k := ⟨n - 1, by omega, by omega⟩
/-- the present sizes, the last first -/
def bd_it (t : Nat → Nat) : Nat → List Nat
  | 0 => []
  | k + 1 => if t k = 0 then bd_it t k else t k :: bd_it t k
theorem bd_it_len (t : Nat → Nat) : ∀ k, (bd_it t k).length ≤ k
  | 0 => Nat.le_refl 0
  | k + 1 => by
    have := bd_it_len t k
    show (if t k = 0 then bd_it t k else t k :: bd_it t k).length ≤ k + 1
    split
    · omega
    · rw [List.length_cons]; omega
theorem bd_it_mem {t : Nat → Nat} {w : Nat} : ∀ {k : Nat}, w ∈ bd_it t k → ∃ j, j < k ∧ t j = w ∧ 0 < w
  | 0, h => by cases h
  | k + 1, h => by
    have h' : w ∈ (if t k = 0 then bd_it t k else t k :: bd_it t k) := h
    split at h'
    · obtain ⟨j, h1, h2, h3⟩ := bd_it_mem h'
      exact ⟨j, by omega, h2, h3⟩
    · rcases List.mem_cons.mp h' with e | e
      · exact ⟨k, by omega, e.symm, by omega⟩
      · obtain ⟨j, h1, h2, h3⟩ := bd_it_mem e
        exact ⟨j, by omega, h2, h3⟩
theorem bd_it_ext {t u : Nat → Nat} : ∀ k, (∀ j, j < k → t j = u j) → bd_it t k = bd_it u k
  | 0, _ => rfl
  | k + 1, h => by
    show (if t k = 0 then bd_it t k else t k :: bd_it t k) = if u k = 0 then bd_it u k else u k :: bd_it u k
    rw [bd_it_ext k (fun j hj => h j (by omega)), h k (by omega)]
/-- a question: room R, o bins in use with loads D, items L -/
def bd_Q (R o : Nat) (D : Nat → Nat) (L : List Nat) (xR xO xC : Int32) (aL aR : Nat → Int32) : Prop :=
  xR = nI R ∧ xO = nI o ∧ xC = nI L.length ∧ 0 < R ∧ R ≤ 480 ∧ o + L.length ≤ 9 ∧ bd_Ag aL D ∧ (∀ j, o ≤ j → D j = 0) ∧ (∀ j, D j ≤ R) ∧ bd_Al aR 0 L ∧ (∀ w, w ∈ L → w ≤ R)
end
section
/-! ===== X: small methods ===== -/
section
variable {xB xP xR xO xC xE xW xK xL : Int32} {aS aL aR aP aO aW aN : Nat → Int32}
theorem bx_has {post : Int32 → Prop} {i : Nat} (hi : i < 8) (h1 : bt xP i = true → post 1) (h0 : bt xP i = false → post 0) : wpX_has post (xB, xP, xR, xO, xC, xE, xW, xK, xL, aS, aL, aR, aP, aO, aW, aN) (nI i) := by
  refine br_f (nI_pos (by omega)) (pk_le 8 i (fun h => absurd h (by omega)) (fun _ => ?_))
  refine br_c (fun h => h0 ((bd_bit xP i (by omega)).mp h)) (fun h => h1 ?_)
  cases e : bt xP i
  · exact absurd ((bd_bit xP i (by omega)).mpr e) h
  · rfl
theorem bx_has_o {post : Int32 → Prop} {x : Int32} (hx : ¬ ∃ i, i < 8 ∧ x = nI i) (h : post 0) : wpX_has post (xB, xP, xR, xO, xC, xE, xW, xK, xL, aS, aL, aR, aP, aO, aW, aN) x := by
  rcases pk_ix x (n := 8) (by decide) with z | z | z
  · exact br_t z h
  · by_cases n : x < 0
    · exact br_t n h
    · exact br_f n (br_t z h)
  · exact absurd z hx
theorem bx_ask17 {post : SX → Prop} (K : ∀ a, (∀ j, j < 16 → a j = nI 0) → post (xB, xP, xR, xO, xC, xE, xW, xK, xL, aS, a, aR, aP, aO, aW, aN)) : ∀ d i n (a : Nat → Int32), i + d = 16 → d < n → (∀ j, j < i → a j = nI 0) → wX_ask_17 post xB xP xR xO xC xE xW xK xL n (nI i) aS a aR aP aO aW aN := by
  intro d
  induction d with
  | zero =>
    intro i n a hi hn ha
    obtain ⟨k, rfl, hk⟩ := bd_fu hn
    exact pk_le 16 i (fun _ => K a (fun j hj => ha j (by omega))) (fun h => absurd h (by omega))
  | succ d ih =>
    intro i n a hi hn ha
    obtain ⟨k, rfl, hk⟩ := bd_fu hn
    refine pk_le 16 i (fun h => absurd h (by omega)) (fun _ => ⟨vp_in_nI (by omega) (by omega), fun a3 e3 => nm_r (nI_1 i) (ih (i + 1) k a3 (by omega) (by omega) ?_)⟩)
    intro j hj
    rw [e3, nI_clamp (by omega)]
    by_cases e : j = i
    · subst e; rw [pk_us]; rfl
    · rw [pk_un e]; exact ha j (by omega)
theorem bx_ask {post : SX → Prop} {z : Int32} (K : ∀ a, (∀ j, j < 16 → a j = nI 0) → post (xB, xP, z, 0, 0, xE, xW, xK, xL, aS, a, aR, aP, aO, aW, aN)) : wpX_ask post (xB, xP, xR, xO, xC, xE, xW, xK, xL, aS, aL, aR, aP, aO, aW, aN) z :=
  ⟨17, bx_ask17 K 16 0 17 aL rfl (by omega) (fun j hj => absurd hj (Nat.not_lt_zero j))⟩
theorem bx_want41 {post : SX → Prop} {s k : Nat} {p q : List Nat} (hk : p.length = k) (hb : k + q.length < 16) (h1 : bd_Al aR 0 p) (h2 : bd_Al aR (k + 1) q) (hC : xC = nI (p ++ q).length)
    (K : ∀ L' a, L'.Perm (s :: (p ++ q)) → bd_Al a 0 L' → post (xB, xP, xR, xO, nI L'.length, xE, xW, xK, xL, aS, aL, a, aP, aO, aW, aN)) : wX_want_41 post (nI s) (nI k) xB xP xR xO xC xE xW xK xL aS aL aR aP aO aW aN := by
  refine ⟨vp_in_nI (by omega) (by omega), fun a3 e3 => nm_r (e' := nI (p ++ s :: q).length) ?_ (K (p ++ s :: q) a3 List.perm_middle ?_)⟩
  · rw [hC, nI_1]
    exact congrArg nI (by simp; omega)
  · rw [e3, nI_clamp (by omega), bd_Al_app]
    refine ⟨bd_Al_hi (by omega) h1, ?_, ?_⟩
    · rw [show 0 + p.length = k from by omega]; exact pk_us
    · rw [show 0 + p.length + 1 = k + 1 from by omega]
      exact bd_Al_lo (by omega) h2
theorem bx_want5 {post : SX → Prop} {s : Nat} (hs : s < 1000) {L : List Nat} (hw : ∀ w, w ∈ L → w < 1000) (hL : L.length < 16) (hC : xC = nI L.length)
    (K : ∀ L' a, L'.Perm (s :: L) → bd_Al a 0 L' → post (xB, xP, xR, xO, nI L'.length, xE, xW, xK, xL, aS, aL, a, aP, aO, aW, aN)) : ∀ k n (p q : List Nat) (a : Nat → Int32), p.length = k → k < n → p ++ q = L → bd_Al a 0 p → bd_Al a (k + 1) q →
      wX_want_5 post (nI s) xB xP xR xO xC xE xW xK xL n (nI k) aS aL a aP aO aW aN := by
  intro k
  induction k with
  | zero =>
    intro n p q a hk hn e h1 h2
    obtain ⟨n, rfl, _⟩ := bd_fu hn
    have hl : L.length = q.length := by rw [← e, List.length_append, hk]; omega
    exact pk_le 0 0 (fun _ => bx_want41 (p := p) (q := q) hk (by omega) h1 h2 (by rw [e]; exact hC) (by rw [e]; exact K)) (fun h => absurd h (by omega))
  | succ k ih =>
    intro n p q a hk hn e h1 h2
    obtain ⟨n, rfl, _⟩ := bd_fu hn
    have hl : L.length = k + 1 + q.length := by rw [← e, List.length_append, hk]
    obtain ⟨p', w, rfl⟩ : ∃ p' w, p = p' ++ [w] := by
      have hne : p ≠ [] := fun z => by rw [z] at hk; cases hk
      exact ⟨p.dropLast, p.getLast hne, (List.dropLast_concat_getLast hne).symm⟩
    have hk' : p'.length = k := by rw [List.length_append] at hk; simpa using hk
    have h1' := (bd_Al_app p' [w] 0).mp h1
    have haw : a k = nI w := by
      have := h1'.2.1
      rw [show 0 + p'.length = k from by omega] at this; exact this
    have hw1 : w < 1000 := hw w (by rw [← e]; simp)
    have ek : nI (k + 1) - 1 = nI k := nI_pred k
    have ec : (nI (k + 1) - 1).toNatClampNeg = k := by rw [ek]; exact nI_clamp (by omega)
    have hin : vp_in (nI (k + 1) - 1) 16 := by rw [ek]; exact vp_in_nI (by omega) (by omega)
    refine pk_le (k + 1) 0 (fun h => absurd h (by omega)) (fun _ => ⟨hin, ?_⟩)
    rw [ec, haw]
    refine pk_le s w (fun _ => bx_want41 (p := p' ++ [w]) (q := q) hk (by omega) h1 h2 (by rw [e]; exact hC) (by rw [e]; exact K)) (fun _ => ⟨hin, vp_in_nI (by omega) (by omega), fun a9 e9 => nm_r (pk_m1 k) (ih n p' (w :: q) a9 hk' (by omega) (by rw [← e]; simp) ?_ ?_)⟩)
    · rw [e9, nI_clamp (by omega)]
      exact bd_Al_hi (by omega) h1'.1
    · rw [e9, nI_clamp (by omega)]
      exact ⟨pk_us, bd_Al_lo (by omega) h2⟩
theorem bx_want {post : SX → Prop} {s : Nat} (hs : s < 1000) {L : List Nat} (hw : ∀ w, w ∈ L → w < 1000) (hL : L.length < 16) (hC : xC = nI L.length) (hA : bd_Al aR 0 L)
    (K : ∀ L' a, L'.Perm (s :: L) → bd_Al a 0 L' → post (xB, xP, xR, xO, nI L'.length, xE, xW, xK, xL, aS, aL, a, aP, aO, aW, aN)) : wpX_want post (xB, xP, xR, xO, xC, xE, xW, xK, xL, aS, aL, aR, aP, aO, aW, aN) (nI s) := by
  refine ⟨L.length + 1, ?_⟩
  rw [hC]
  exact bx_want5 (xC := nI L.length) hs hw hL rfl K L.length (L.length + 1) L [] aR rfl (by omega) (List.append_nil L) hA trivial
theorem bx_wantAll2 {post : SX → Prop} {z : Int32} {t : Nat → Nat} (ht : ∀ j, j < 8 → (bt z j = false ∧ t j = 0) ∨ (bt z j = true ∧ aS j = nI (t j) ∧ 0 < t j ∧ t j < 1000)) {L : List Nat} (hw : ∀ w, w ∈ L → w < 1000) (hL : L.length < 8)
    (K : ∀ L' a, L'.Perm (bd_it t 8 ++ L) → bd_Al a 0 L' → post (xB, xP, xR, xO, nI L'.length, xE, xW, xK, xL, aS, aL, a, aP, aO, aW, aN)) : ∀ d i n (M : List Nat) (a : Nat → Int32), i + d = 8 → d < n → M.Perm (bd_it t i ++ L) → bd_Al a 0 M →
      wX_wantAll_2 post z n (nI i) xB xP xR xO (nI M.length) xE xW xK xL aS aL a aP aO aW aN := by
  intro d
  induction d with
  | zero =>
    intro i n M a hi hn hp ha
    obtain ⟨n, rfl, _⟩ := bd_fu hn
    have e : i = 8 := by omega
    subst e
    exact pk_le 8 8 (fun _ => K M a hp ha) (fun h => absurd h (by omega))
  | succ d ih =>
    intro i n M a hi hn hp ha
    obtain ⟨n, rfl, _⟩ := bd_fu hn
    refine pk_le 8 i (fun h => absurd h (by omega)) (fun _ => ?_)
    rcases ht i (by omega) with ⟨hb, h0⟩ | ⟨hb, h1, h2, h3⟩
    · refine br_t ((bd_bit z i (by omega)).mpr hb) (nm_r (nI_1 i) (ih (i + 1) n M a (by omega) (by omega) ?_ ha))
      show M.Perm ((if t i = 0 then bd_it t i else t i :: bd_it t i) ++ L)
      rw [if_pos h0]; exact hp
    · refine br_f (fun h => ?_) ⟨vp_in_nI (by omega) (by omega), ?_⟩
      · rw [(bd_bit z i (by omega)).mp h] at hb; cases hb
      · rw [nI_clamp (by omega), h1]
        have hl : M.length ≤ i + L.length := by
          rw [hp.length_eq, List.length_append]
          have := bd_it_len t i
          omega
        refine bx_want h3 (L := M) (fun w hw' => ?_) (by omega) rfl ha (fun L' a' p' h' => ?_)
        · rcases List.mem_append.mp (hp.mem_iff.mp hw') with e | e
          · obtain ⟨j, hj, e1, e2⟩ := bd_it_mem e
            rcases ht j (by omega) with ⟨_, hh⟩ | ⟨_, _, _, hh⟩ <;> omega
          · exact hw w e
        · refine nm_r (nI_1 i) (ih (i + 1) n L' a' (by omega) (by omega) ?_ h')
          show L'.Perm ((if t i = 0 then bd_it t i else t i :: bd_it t i) ++ L)
          rw [if_neg (by omega), List.cons_append]
          exact p'.trans (hp.cons (t i))
theorem bx_wantAll {post : SX → Prop} {z : Int32} {t : Nat → Nat} (ht : ∀ j, j < 8 → (bt z j = false ∧ t j = 0) ∨ (bt z j = true ∧ aS j = nI (t j) ∧ 0 < t j ∧ t j < 1000))
    (hC : xC = 0) (K : ∀ L' a, L'.Perm (bd_it t 8) → bd_Al a 0 L' → post (xB, xP, xR, xO, nI L'.length, xE, xW, xK, xL, aS, aL, a, aP, aO, aW, aN)) : wpX_wantAll post (xB, xP, xR, xO, xC, xE, xW, xK, xL, aS, aL, aR, aP, aO, aW, aN) z := by
  refine ⟨9, ?_⟩
  rw [hC]
  exact bx_wantAll2 ht (L := []) (fun w h => by cases h) (by decide) (fun L' a hp ha => K L' a (by rw [List.append_nil] at hp; exact hp) ha) 8 0 9 [] aR rfl (by omega) (List.Perm.refl _) trivial
theorem bx_ceil {post : Int32 → Prop} {a b R : Nat} (ha : a < 2 ^ 20) (hb : b < 2 ^ 20) (hR : 0 < R) (hR2 : R < 2 ^ 20) (h : post (nI (bd_cl a b R))) : wpX_ceiling post (nI a - nI b) (nI R) := by
  rcases Nat.lt_or_ge b a with z | z
  · have e : nI a - nI b = nI (a - b) := pk_sub (by omega)
    rw [e]
    refine pk_lt 0 (a - b) (fun _ => pk_le R 0 (fun q => absurd q (by omega)) (fun _ => ⟨nI_ne0 hR (by omega), ?_⟩)) (fun q => absurd q (by omega))
    rw [nI_add]
    obtain ⟨d, hd⟩ : ∃ d, a - b + R = d + 1 := ⟨a - b + R - 1, by omega⟩
    rw [hd, nI_pred, pk_div (by omega) hR (by omega)]
    have : bd_cl a b R = d / R := by
      unfold bd_cl
      rw [show a - b + (R - 1) = d from by omega]
    rw [← this]; exact h
  · refine br_f ?_ ?_
    · rw [Int32.lt_iff_toInt_lt, pk_sub_toInt (by omega) (by omega), show (0 : Int32).toInt = 0 from by decide]
      omega
    · have : bd_cl a b R = 0 := by
        unfold bd_cl
        exact Nat.div_eq_of_lt (by omega)
      rw [this] at h
      exact h
end
end
section
/-! ===== X: the bounds ===== -/
theorem bd_A_le (R q : Nat) : ∀ W : List Nat, bd_A R q W ≤ W.length
  | [] => Nat.le_refl _
  | w :: L => by
    have := bd_A_le R q L
    simp only [bd_A, List.length_cons]
    split <;> omega
theorem bd_H_le (R q : Nat) : ∀ W : List Nat, bd_H R q W ≤ W.length
  | [] => Nat.le_refl _
  | w :: L => by
    have := bd_H_le R q L
    simp only [bd_H, List.length_cons]
    split
    · split <;> omega
    · omega
theorem bd_M_le (R q : Nat) : ∀ W : List Nat, (∀ w, w ∈ W → w ≤ 480) → bd_M R q W ≤ W.length * 480
  | [], _ => Nat.le_refl _
  | w :: L, h => by
    have := bd_M_le R q L (fun w hw => h w (List.mem_cons_of_mem _ hw))
    have := h w (List.mem_cons_self ..)
    simp only [bd_M, List.length_cons]
    split
    · split
      · split <;> omega
      · omega
    · omega
theorem bd_cl_b (a b R : Nat) : bd_cl a b R ≤ a + R := by
  unfold bd_cl
  have := Nat.div_le_self (a - b + (R - 1)) R
  omega
theorem bd_bw_b {R q : Nat} {W : List Nat} (hR : R ≤ 480) (hl : W.length ≤ 32) (h : ∀ w, w ∈ W → w ≤ 480) : bd_bw R q W ≤ 20000 := by
  have h1 := bd_A_le R q W
  have h2 := bd_H_le R q W
  have h3 := bd_M_le R q W h
  have h4 := bd_cl_b (bd_M R q W) (bd_H R q W * R - bd_S R q W) R
  unfold bd_bw
  omega
section
variable {xB xP xR xO xC xE xW xK xL : Int32} {aS aL aR aP aO aW aN : Nat → Int32}
theorem bx_bw13 {post : Int32 → Prop} {R q c : Nat} (hR0 : 0 < R) (hR : R ≤ 480) (hq : q ≤ R) (hx : xR = nI R) (hW : xW = nI c) (hc : c ≤ 32) :
    ∀ (t : List Nat) (k n A H S M : Nat), k + t.length = c → t.length < n → bd_Al aW k t → (∀ w, w ∈ t → w ≤ 480) → A ≤ k → H ≤ k → S ≤ H * R → M ≤ k * 480 →
      post (nI ((A + bd_A R q t) + (H + bd_H R q t) + bd_cl (M + bd_M R q t) ((H + bd_H R q t) * R - (S + bd_S R q t)) R)) →
      wX_boundWith_13 post (nI q) xB xP xR xO xC xE xW xK xL aS aL aR aP aO aW aN n (nI A) (nI H) (nI S) (nI M) (nI k) := by
  subst hx hW
  intro t
  induction t with
  | nil =>
    intro k n A H S M hk hn hA hw h1 h2 h3 h4 hp
    obtain ⟨n, rfl, _⟩ := bd_fu hn
    have hHR : H * R ≤ 32 * 480 := Nat.mul_le_mul (by simp at hk; omega) hR
    simp only [bd_A, bd_H, bd_S, bd_M, Nat.add_zero] at hp
    simp at hk
    refine pk_le c k (fun _ => nm_r (e' := nI M - nI (H * R - S)) (by rw [pk_mul, pk_sub h3]) (bx_ceil (by omega) (by omega) hR0 (by omega) ?_)) (fun h => absurd h (by omega))
    rw [nI_add, nI_add]; exact hp
  | cons w t ih =>
    intro k n A H S M hk hn hA hw h1 h2 h3 h4 hp
    obtain ⟨n, rfl, _⟩ := bd_fu hn
    rw [List.length_cons] at hk hn
    have hw1 := hw w (List.mem_cons_self ..)
    have hw2 : ∀ w, w ∈ t → w ≤ 480 := fun w z => hw w (List.mem_cons_of_mem _ z)
    have hA2 := hA.2
    refine pk_le c k (fun h => absurd h (by omega)) (fun _ => ⟨vp_in_nI (by omega) (by omega), nm_r (e' := nI w) (by rw [nI_clamp (by omega)]; exact hA.1) ?_⟩)
    refine pk_le w (R - q) (fun c1 => ?_) (fun c1 => ?_) rfl (pk_sub hq)
    · refine pk_le (2 * w) R (fun c2 => ?_) (fun c2 => ?_) (pk_mul 2 w)
      · refine pk_lt w q (fun c3 => ?_) (fun c3 => ?_)
        · refine nm_r (nI_1 k) (ih (k + 1) n A H S M (by omega) (by omega) hA2 hw2 (by omega) (by omega) h3 (by omega) ?_)
          simpa only [bd_A, bd_H, bd_S, bd_M, if_pos c1, if_pos c2, if_pos c3, Nat.zero_add] using hp
        · refine nm_r (nI_add M w) (nm_r (nI_1 k) (ih (k + 1) n A H S (M + w) (by omega) (by omega) hA2 hw2 (by omega) (by omega) h3 (by omega) ?_))
          simpa only [bd_A, bd_H, bd_S, bd_M, if_pos c1, if_pos c2, if_neg (Nat.not_lt.mpr c3), Nat.zero_add, Nat.add_assoc] using hp
      · refine nm_r (nI_1 H) (nm_r (nI_add S w) (nm_r (nI_1 k) (ih (k + 1) n A (H + 1) (S + w) M (by omega) (by omega) hA2 hw2 (by omega) (by omega) (by rw [Nat.add_mul]; omega) (by omega) ?_)))
        simpa only [bd_A, bd_H, bd_S, bd_M, if_pos c1, if_neg (Nat.not_le.mpr c2), Nat.zero_add, Nat.add_assoc] using hp
    · refine nm_r (nI_1 A) (nm_r (nI_1 k) (ih (k + 1) n (A + 1) H S M (by omega) (by omega) hA2 hw2 (by omega) (by omega) h3 (by omega) ?_))
      simpa only [bd_A, bd_H, bd_S, bd_M, if_neg (Nat.not_le.mpr c1), Nat.zero_add, Nat.add_assoc] using hp
theorem bx_bw {post : Int32 → Prop} {R q : Nat} {W : List Nat} (hR0 : 0 < R) (hR : R ≤ 480) (hq : q ≤ R) (hx : xR = nI R) (hW : xW = nI W.length) (hc : W.length ≤ 32) (hA : bd_Al aW 0 W) (hw : ∀ w, w ∈ W → w ≤ 480)
    (hp : post (nI (bd_bw R q W))) : wpX_boundWith post (xB, xP, xR, xO, xC, xE, xW, xK, xL, aS, aL, aR, aP, aO, aW, aN) (nI q) := by
  refine ⟨W.length + 1, bx_bw13 hR0 hR hq hx hW hc W 0 (W.length + 1) 0 0 0 0 (by omega) (by omega) hA hw (by omega) (by omega) (by omega) (by omega) ?_⟩
  simp only [Nat.zero_add]
  exact hp
theorem bx_lb94 {post : Int32 → SX → Prop} {R : Nat} {W : List Nat} {G : Nat → Prop} (hR0 : 0 < R) (hR : R ≤ 480) (hx : xR = nI R) (hW : xW = nI W.length) (hc : W.length ≤ 32) (hA : bd_Al aW 0 W) (hw : ∀ w, w ∈ W → w ≤ 480)
    (hG : ∀ q, 2 * q ≤ R → ∀ m, G m → bd_bw R q W ≤ m) (K : ∀ d, d ≤ 20000 → (∀ m, G m → d ≤ m) → post (nI d) (xB, xP, xR, xO, xC, xE, xW, xK, xL, aS, aL, aR, aP, aO, aW, aN)) :
    ∀ (t p : List Nat) (n d : Nat), p ++ t = W → t.length < n → bd_Al aW p.length t → d ≤ 20000 → (∀ m, G m → d ≤ m) → wX_lowerBound_94 post xB xP xR xO xC xE xW xK xL aS aL aR aP aO aW aN n (nI d) (nI p.length) := by
  intro t
  induction t with
  | nil =>
    intro p n d e hn hA2 hd hg
    obtain ⟨n, rfl, _⟩ := bd_fu hn
    rw [List.append_nil] at e
    refine pk_le W.length p.length (fun _ => bx_bw (q := 0) hR0 hR (by omega) hx hW hc hA hw ?_) (fun h => absurd h (by rw [e]; omega)) hW rfl (by omega) (by rw [e]; omega)
    have hb := bd_bw_b (R := R) (q := 0) (W := W) hR hc hw
    exact pk_le (bd_bw R 0 W) d (fun _ => K d hd hg) (fun _ => K _ hb (hG 0 (by omega)))
  | cons w t ih =>
    intro p n d e hn hA2 hd hg
    obtain ⟨n, rfl, _⟩ := bd_fu hn
    rw [List.length_cons] at hn
    have hl : W.length = p.length + (t.length + 1) := by rw [← e, List.length_append, List.length_cons]
    have hwm : w ≤ 480 := hw w (by rw [← e]; simp)
    have e' : (p ++ [w]) ++ t = W := by rw [← e]; simp
    have hl' : (p ++ [w]).length = p.length + 1 := by simp
    have hin : vp_in (nI p.length) 32 := vp_in_nI (by omega) (by omega)
    have ec : (nI p.length).toNatClampNeg = p.length := nI_clamp (by omega)
    have step : ∀ d', d' ≤ 20000 → (∀ m, G m → d' ≤ m) → wX_lowerBound_94 post xB xP xR xO xC xE xW xK xL aS aL aR aP aO aW aN n (nI d') (nI (p.length + 1)) := by
      intro d' h1 h2
      have := ih (p ++ [w]) n d' e' (by omega) (by rw [hl']; exact hA2.2) h1 h2
      rw [hl'] at this; exact this
    refine pk_le W.length p.length (fun h => absurd h (by omega)) (fun _ => ⟨hin, ?_⟩) hW rfl
    rw [ec, hA2.1]
    refine pk_lt R (2 * w) (fun _ => nm_r (nI_1 _) (step d hd hg)) (fun c2 => ⟨hin, bx_bw (q := w) hR0 hR (by omega) hx hW hc hA hw ?_⟩) hx (pk_mul 2 w)
    have hb := bd_bw_b (R := R) (q := w) (W := W) hR hc hw
    exact pk_le (bd_bw R w W) d (fun _ => nm_r (nI_1 _) (step d hd hg)) (fun _ => nm_r (nI_1 _) (step _ hb (hG w c2)))
theorem bx_lb48 {post : Int32 → SX → Prop} {R o : Nat} {W L : List Nat} {G : Nat → Prop} (hR0 : 0 < R) (hR : R ≤ 480) (hx : xR = nI R) (hO : xO = nI o) (ho : o ≤ 16) (hC : xC = nI L.length) (hL : L.length ≤ 15) (hl : W.length + L.length ≤ 32) (hw : ∀ w, w ∈ W ++ L → w ≤ 480)
    (hG : ∀ q, 2 * q ≤ R → ∀ m, G m → bd_bw R q (W ++ L) ≤ m) (hGo : ∀ m, G m → o ≤ m) (K : ∀ d z a, d ≤ 20000 → (∀ m, G m → d ≤ m) → post (nI d) (xB, xP, xR, xO, xC, xE, z, xK, xL, aS, aL, aR, aP, aO, a, aN)) :
    ∀ (t p : List Nat) (n : Nat) (a : Nat → Int32), p ++ t = L → t.length < n → bd_Al aR p.length t → bd_Al a 0 (W ++ p) → wX_lowerBound_48 post xB xP xR xO xC xE xK xL n (nI p.length) (nI (W.length + p.length)) aS aL aR aP aO a aN := by
  intro t
  induction t with
  | nil =>
    intro p n a e hn hA1 hA2
    obtain ⟨n, rfl, _⟩ := bd_fu hn
    rw [List.append_nil] at e
    subst e
    refine pk_le p.length p.length (fun _ => ⟨(W ++ p).length + 1, ?_⟩) (fun h => absurd h (by omega)) hC rfl
    rw [hO]
    exact bx_lb94 (W := W ++ p) (G := G) hR0 hR hx (by rw [List.length_append]) (by rw [List.length_append]; exact hl) hA2 hw hG (fun d h1 h2 => hO ▸ K d _ _ h1 h2) (W ++ p) [] _ o rfl (by omega) hA2 (by omega) hGo
  | cons w t ih =>
    intro p n a e hn hA1 hA2
    obtain ⟨n, rfl, _⟩ := bd_fu hn
    rw [List.length_cons] at hn
    have hl2 : L.length = p.length + (t.length + 1) := by rw [← e, List.length_append, List.length_cons]
    have e' : (p ++ [w]) ++ t = L := by rw [← e]; simp
    have hl' : (p ++ [w]).length = p.length + 1 := by simp
    have ec : (nI p.length).toNatClampNeg = p.length := nI_clamp (by omega)
    refine pk_le L.length p.length (fun h => absurd h (by omega)) (fun _ => ⟨vp_in_nI (by omega) (by omega), vp_in_nI (by omega) (by omega), fun a3 e3 => nm_r (nI_1 _) (nm_r (nI_1 _) ?_)⟩) hC rfl
    rw [ec, hA1.1, nI_clamp (by omega)] at e3
    have := ih (p ++ [w]) n a3 e' (by omega) (by rw [hl']; exact hA1.2) (by
      rw [e3, ← List.append_assoc]
      exact bd_Al_put (by rw [List.length_append]; omega) hA2)
    rw [hl'] at this
    exact this
theorem bx_lb7 {post : Int32 → SX → Prop} {R o : Nat} {D : Nat → Nat} {L : List Nat} {G : Nat → Prop} (hR0 : 0 < R) (hR : R ≤ 480) (hx : xR = nI R) (hO : xO = nI o) (ho : o ≤ 15) (hC : xC = nI L.length) (hL : L.length ≤ 15) (hw : ∀ w, w ∈ bd_wl D o ++ L → w ≤ 480)
    (hG : ∀ q, 2 * q ≤ R → ∀ m, G m → bd_bw R q (bd_wl D o ++ L) ≤ m) (hGo : ∀ m, G m → o ≤ m) (hA : bd_Al aR 0 L) (hD : bd_Ag aL D) (K : ∀ d z a, d ≤ 20000 → (∀ m, G m → d ≤ m) → post (nI d) (xB, xP, xR, xO, xC, xE, z, xK, xL, aS, aL, aR, aP, aO, a, aN)) :
    ∀ (d b n : Nat) (a : Nat → Int32), b + d = o → d < n → bd_Al a 0 (bd_wl D b) → wX_lowerBound_7 post xB xP xR xO xC xE xK xL n (nI b) (nI b) aS aL aR aP aO a aN := by
  intro d
  induction d with
  | zero =>
    intro b n a hb hn h1
    obtain ⟨n, rfl, _⟩ := bd_fu hn
    have e : b = o := by omega
    subst e
    refine pk_le b b (fun _ => ⟨L.length + 1, ?_⟩) (fun h => absurd h (by omega)) hO rfl
    have hl := bd_wl_len D b
    have := bx_lb48 (W := bd_wl D b) (L := L) (G := G) hR0 hR hx hO (by omega) hC hL (by rw [hl]; omega) hw hG hGo K L [] (L.length + 1) a rfl (by omega) hA (by rw [List.append_nil]; exact h1)
    rw [hl] at this
    exact this
  | succ d ih =>
    intro b n a hb hn h1
    obtain ⟨n, rfl, _⟩ := bd_fu hn
    refine pk_le o b (fun h => absurd h (by omega)) (fun _ => ⟨vp_in_nI (by omega) (by omega), vp_in_nI (by omega) (by omega), fun a3 e3 => nm_r (nI_1 _) (nm_r (nI_1 _) (ih (b + 1) n a3 (by omega) (by omega) ?_))⟩) hO rfl
    rw [nI_clamp (by omega), hD b (by omega)] at e3
    rw [e3]
    exact bd_Al_put (by rw [bd_wl_len]; omega) h1
theorem bd_wl_mem {D : Nat → Nat} {w : Nat} : ∀ {o : Nat}, w ∈ bd_wl D o → ∃ j, j < o ∧ w = D j
  | 0, h => by cases h
  | o + 1, h => by
    have h' : w ∈ bd_wl D o ++ [D o] := h
    rcases List.mem_append.mp h' with e | e
    · obtain ⟨j, h1, h2⟩ := bd_wl_mem e
      exact ⟨j, by omega, h2⟩
    · exact ⟨o, by omega, List.mem_singleton.mp e⟩
theorem bx_lb {post : Int32 → SX → Prop} {R o : Nat} {D : Nat → Nat} {L : List Nat} (q : bd_Q R o D L xR xO xC aL aR)
    (K : ∀ d z a, d ≤ 20000 → (∀ m, o ≤ m → bd_CP R m L D → d ≤ m) → post (nI d) (xB, xP, xR, xO, xC, xE, z, xK, xL, aS, aL, aR, aP, aO, a, aN)) : wpX_lowerBound post (xB, xP, xR, xO, xC, xE, xW, xK, xL, aS, aL, aR, aP, aO, aW, aN) := by
  obtain ⟨q1, q2, q3, q4, q5, q6, q7, q8, q9, q10, q11⟩ := q
  exact ⟨o + 1, bx_lb7 (G := fun m => o ≤ m ∧ bd_CP R m L D) q4 q5 q1 q2 (by omega) q3 (by omega) (fun w hw => by
    rcases List.mem_append.mp hw with e | e
    · obtain ⟨j, _, rfl⟩ := bd_wl_mem e
      exact Nat.le_trans (q9 j) q5
    · exact Nat.le_trans (q11 w e) q5) (fun s hs m hm => bd_lb q4 hs q8 hm.1 hm.2) (fun m hm => hm.1) q10 q7 (fun d z a h1 h2 => K d z a h1 (fun m m1 m2 => h2 m ⟨m1, m2⟩)) o 0 (o + 1) aW (by omega) (by omega) trivial⟩
end
end
section
/-! ===== X: by falling sizes ===== -/
def bd_as (D : Nat → Nat) : List Nat → List Nat → Nat → Nat
  | c :: f, w :: L => bd_ad (bd_as D f L) c w
  | _, _ => D
theorem bd_as_app (D : Nat → Nat) (c w : Nat) : ∀ (f L : List Nat), f.length = L.length → bd_as D (f ++ [c]) (L ++ [w]) = bd_ad (bd_as D f L) c w
  | [], [], _ => rfl
  | a :: f, v :: L, h => by
    show bd_ad (bd_as D (f ++ [c]) (L ++ [w])) a v = bd_ad (bd_ad (bd_as D f L) a v) c w
    rw [bd_as_app D c w f L (by simpa using h), bd_ad_comm]
section
variable {xB xP xR xO xC xE xW xK xL : Int32} {aS aL aR aP aO aW aN : Nat → Int32}
theorem bx_ff87 {post : Int32 → SX → Prop} {m c : Nat} {D : Nat → Nat} (hC : xC = nI c) (hc : c ≤ 15) (K : ∀ a, bd_Ag a D → post (nI m) (xB, xP, xR, xO, xC, xE, xW, xK, xL, aS, a, aR, aP, aO, aW, aN)) :
    ∀ (t f : List Nat) (k n : Nat) (a : Nat → Int32), k + t.length = c → f.length = t.length → t.length < n → bd_Al aR k t → bd_Al aP k f → (∀ b, b ∈ f → b < 16) → bd_Ag a (bd_as D f t) →
      wX_byFallingSizes_87 post (nI m) xB xP xR xO xC xE xW xK xL n (nI k) aS a aR aP aO aW aN := by
  intro t
  induction t with
  | nil =>
    intro f k n a hk hf hn h1 h2 h3 h4
    obtain ⟨n, rfl, _⟩ := bd_fu hn
    have e : f = [] := List.eq_nil_of_length_eq_zero hf
    subst e
    rw [List.length_nil] at hk
    exact pk_le c k (fun _ => K a h4) (fun h => absurd h (by omega)) hC rfl
  | cons w t ih =>
    intro f k n a hk hf hn h1 h2 h3 h4
    obtain ⟨n, rfl, _⟩ := bd_fu hn
    cases f with
    | nil => cases hf
    | cons b f =>
      rw [List.length_cons] at hk hn
      rw [List.length_cons, List.length_cons] at hf
      have hb := h3 b (List.mem_cons_self ..)
      have ec : (nI k).toNatClampNeg = k := nI_clamp (by omega)
      have h4' : bd_Ag a (bd_ad (bd_as D f t) b w) := h4
      refine pk_le c k (fun h => absurd h (by omega)) (fun _ => ?_) hC rfl
      rw [ec, h2.1, h1.1, nI_clamp (show b < 2 ^ 31 by omega)]
      refine ⟨vp_in_nI (by omega) (by omega), vp_in_nI hb (by omega), vp_in_nI (by omega) (by omega), vp_in_nI hb (by omega), fun a7 e7 => nm_r (nI_1 k) (ih f (k + 1) n a7 (by omega) (by omega) (by omega) h1.2 h2.2 (fun d hd => h3 d (List.mem_cons_of_mem _ hd)) ?_)⟩
      rw [h4' b hb, bd_ad_s, pk_sub (by omega), Nat.add_sub_cancel] at e7
      rw [e7]
      exact bd_Ag_sb h4'
theorem bx_ff17 {post : Int32 → SX → Prop} {J : Int32 → Int32 → (Nat → Int32) → (Nat → Int32) → (Nat → Int32) → (Nat → Int32) → (Nat → Int32) → (Nat → Int32) → (Nat → Int32) → Prop} {R g k w : Nat} {E : Nat → Nat} (hx : xR = nI R) (hR : R ≤ 480) (hg : g ≤ 15) (hk : k ≤ 15) (hw : aR k = nI w) (hw2 : w ≤ R) (hE : bd_Ag aL E) (hE2 : ∀ j, E j ≤ R)
    (K : ∀ b, b ≤ g → (b = g ∨ E b + w ≤ R) → wX_byFallingSizes_48 post J (nI g) (nI k) (nI b) xB xP xR xO xC xE xW xK xL aS aL aR aP aO aW aN) : ∀ (d b n : Nat), b + d = g → d < n → wX_byFallingSizes_17 post J (nI g) (nI k) xB xP xR xO xC xE xW xK xL aS aL aR aP aO aW aN n (nI b) := by
  intro d
  induction d with
  | zero =>
    intro b n hb hn
    obtain ⟨n, rfl, _⟩ := bd_fu hn
    exact pk_le g b (fun _ => K b (by omega) (Or.inl (by omega))) (fun h => absurd h (by omega))
  | succ d ih =>
    intro b n hb hn
    obtain ⟨n, rfl, _⟩ := bd_fu hn
    have hb2 := hE2 b
    refine pk_le g b (fun h => absurd h (by omega)) (fun _ => ⟨vp_in_nI (by omega) (by omega), vp_in_nI (by omega) (by omega), ?_⟩)
    rw [nI_clamp (show b < 2 ^ 31 by omega), nI_clamp (show k < 2 ^ 31 by omega), hE b (by omega), hw, nI_add]
    exact pk_le (E b + w) R (fun z => K b (by omega) (Or.inr z)) (fun _ => nm_r (nI_1 b) (ih (b + 1) n (by omega) (by omega))) rfl hx
theorem bx_ff7 {post : Int32 → SX → Prop} {R o : Nat} {D : Nat → Nat} {L : List Nat} (hx : xR = nI R) (hR : R ≤ 480) (hC : xC = nI L.length) (ho : o + L.length ≤ 9) (hL : ∀ w, w ∈ L → w ≤ R) (hA : bd_Al aR 0 L)
    (K : ∀ m a p, o ≤ m → m ≤ o + L.length → bd_CP R m L D → bd_Ag a D → post (nI m) (xB, xP, xR, xO, xC, xE, xW, xK, xL, aS, a, aR, p, aO, aW, aN)) :
    ∀ (t p f : List Nat) (g n : Nat) (a pl : Nat → Int32), p ++ t = L → f.length = p.length → t.length < n → bd_Al aR p.length t → bd_Al pl 0 f → (∀ b, b ∈ f → b < 16) → bd_Ag a (bd_as D f p) → (∀ j, bd_as D f p j ≤ R) → (∀ j, g ≤ j → bd_as D f p j = 0) → o ≤ g → g ≤ o + p.length →
      (∀ m, g ≤ m → bd_CP R m t (bd_as D f p) → bd_CP R m L D) → wX_byFallingSizes_7 post xB xP xR xO xC xE xW xK xL n (nI g) (nI p.length) aS a aR pl aO aW aN := by
  intro t
  induction t with
  | nil =>
    intro p f g n a pl e hf hn h1 h2 h3 h4 h5 h6 h7 h8 H
    obtain ⟨n, rfl, _⟩ := bd_fu hn
    rw [List.append_nil] at e
    subst e
    refine pk_le p.length p.length (fun _ => ⟨p.length + 1, ?_⟩) (fun h => absurd h (by omega)) hC rfl
    exact bx_ff87 (D := D) hC (by omega) (fun a' ha => K g a' pl h7 h8 (H g (Nat.le_refl g) (fun b _ => h5 b)) ha) p f 0 (p.length + 1) a (by omega) hf (by omega) hA h2 h3 h4
  | cons w t ih =>
    intro p f g n a pl e hf hn h1 h2 h3 h4 h5 h6 h7 h8 H
    obtain ⟨n, rfl, _⟩ := bd_fu hn
    rw [List.length_cons] at hn
    have hl : L.length = p.length + (t.length + 1) := by rw [← e, List.length_append, List.length_cons]
    have hwR : w ≤ R := hL w (by rw [← e]; simp)
    have e' : (p ++ [w]) ++ t = L := by rw [← e]; simp
    have hl' : (p ++ [w]).length = p.length + 1 := by simp
    refine pk_le L.length p.length (fun h => absurd h (by omega)) (fun _ => ⟨g + 1, ?_⟩) hC rfl
    refine bx_ff17 (E := bd_as D f p) (w := w) hx hR (by omega) (by omega) h1.1 hwR h4 h5 (fun b hb hc => ?_) g 0 (g + 1) (by omega) (by omega)
    refine ⟨vp_in_nI (by omega) (by omega), vp_in_nI (by omega) (by omega), vp_in_nI (by omega) (by omega), fun a13 e13 => ⟨vp_in_nI (by omega) (by omega), fun p15 e15 => ?_⟩⟩
    rw [nI_clamp (show b < 2 ^ 31 by omega), nI_clamp (show p.length < 2 ^ 31 by omega), h1.1, h4 b (by omega), nI_add] at e13
    rw [nI_clamp (show p.length < 2 ^ 31 by omega), bd_by (show b < 64 by omega)] at e15
    have hs : bd_as D (f ++ [b]) (p ++ [w]) = bd_ad (bd_as D f p) b w := bd_as_app D b w f p hf
    have step : ∀ g', g ≤ g' → b < g' → g' ≤ g + 1 → wX_byFallingSizes_7 post xB xP xR xO xC xE xW xK xL n (nI g') (nI (p.length + 1)) aS a13 aR p15 aO aW aN := by
      intro g' hg1 hg2 hg3
      have := ih (p ++ [w]) (f ++ [b]) g' n a13 p15 e' (by simp [hf]) (by omega) (by rw [hl']; exact h1.2) (by rw [e15]; exact bd_Al_put (by omega) h2) (fun d hd => by
          rcases List.mem_append.mp hd with z | z
          · exact h3 d z
          · rw [List.mem_singleton.mp z]; omega) (by rw [hs, e13]; exact bd_Ag_ad h4) (fun j => by
          rw [hs]
          by_cases z : j = b
          · subst z
            rw [bd_ad_s]
            rcases hc with hc | hc
            · rw [h6 j (by omega)]; omega
            · exact hc
          · rw [bd_ad_n z]; exact h5 j) (fun j hj => by
          rw [hs, bd_ad_n (by omega)]; exact h6 j (by omega)) (by omega) (by rw [hl']; omega) (fun m hm hcp => H m (by omega) ⟨b, by omega, by rw [← hs]; exact hcp⟩)
      rw [hl'] at this
      exact this
    exact pk_eq b g (fun z => nm_r (nI_1 g) (nm_r (nI_1 _) (step (g + 1) (by omega) (by omega) (by omega)))) (fun z => nm_r (nI_1 _) (step g (by omega) (by omega) (by omega)))
theorem bx_ff {post : Int32 → SX → Prop} {R o : Nat} {D : Nat → Nat} {L : List Nat} (q : bd_Q R o D L xR xO xC aL aR)
    (K : ∀ m a p, o ≤ m → m ≤ o + L.length → bd_CP R m L D → bd_Ag a D → post (nI m) (xB, xP, xR, xO, xC, xE, xW, xK, xL, aS, a, aR, p, aO, aW, aN)) : wpX_byFallingSizes post (xB, xP, xR, xO, xC, xE, xW, xK, xL, aS, aL, aR, aP, aO, aW, aN) := by
  obtain ⟨q1, q2, q3, q4, q5, q6, q7, q8, q9, q10, q11⟩ := q
  refine ⟨L.length + 1, ?_⟩
  have := bx_ff7 (o := o) (D := D) q1 q5 q3 q6 q11 q10 K L [] [] o (L.length + 1) aL aP rfl rfl (by omega) q10 trivial (fun b hb => by cases hb) q7 q9 q8 (Nat.le_refl o) (by omega) (fun m _ h => h)
  rw [← q2] at this
  exact this
end
end
section
/-! ===== X: seen, nextBin, hopeful ===== -/
section
variable {xB xP xR xO xC xE xW xK xL : Int32} {aS aL aR aP aO aW aN : Nat → Int32}
theorem bx_seen2 {post : Int32 → Prop} {b : Nat} {D : Nat → Nat} (hb : b < 16) (hD : bd_Ag aL D) (hD2 : ∀ j, D j ≤ 480) (h1 : (∃ c, c < b ∧ D c = D b) → post 1) (h0 : post 0) :
    ∀ (d c n : Nat), c + d = b → d < n → wX_seen_2 post (nI b) xB xP xR xO xC xE xW xK xL aS aL aR aP aO aW aN n (nI c) := by
  intro d
  induction d with
  | zero =>
    intro c n hc hn
    obtain ⟨n, rfl, _⟩ := bd_fu hn
    exact pk_le b c (fun _ => h0) (fun h => absurd h (by omega))
  | succ d ih =>
    intro c n hc hn
    obtain ⟨n, rfl, _⟩ := bd_fu hn
    have z1 := hD2 b
    have z2 := hD2 c
    refine pk_le b c (fun h => absurd h (by omega)) (fun _ => ⟨vp_in_nI (by omega) (by omega), vp_in_nI (by omega) (by omega), ?_⟩)
    rw [nI_clamp (show b < 2 ^ 31 by omega), nI_clamp (show c < 2 ^ 31 by omega), hD b (by omega), hD c (by omega)]
    exact pk_eq (D c) (D b) (fun e => h1 ⟨c, by omega, e⟩) (fun _ => nm_r (nI_1 c) (ih (c + 1) n (by omega) (by omega)))
theorem bx_seen {post : Int32 → Prop} {b : Nat} {D : Nat → Nat} (hb : b < 16) (hD : bd_Ag aL D) (hD2 : ∀ j, D j ≤ 480) (h1 : (∃ c, c < b ∧ D c = D b) → post 1) (h0 : post 0) : wpX_seen post (xB, xP, xR, xO, xC, xE, xW, xK, xL, aS, aL, aR, aP, aO, aW, aN) (nI b) :=
  ⟨b + 1, bx_seen2 hb hD hD2 h1 h0 b 0 (b + 1) (by omega) (by omega)⟩
/-- bin b may be passed over -/
def bd_Sk (R o be w : Nat) (D : Nat → Nat) (b : Nat) : Prop := be ≤ o ∨ R < D b + w ∨ ∃ c, c < b ∧ D c = D b
theorem bx_nb3 {post : Int32 → Prop} {R o be w k q : Nat} {D : Nat → Nat} (hx : xR = nI R) (hR : R ≤ 480) (hE : xE = nI be) (hbe : be ≤ 100) (ho : o ≤ 15) (hk : k ≤ 15) (hq : q ≤ 100) (hw : aR k = nI w) (hw2 : w ≤ R) (hD : bd_Ag aL D) (hD2 : ∀ j, D j ≤ R)
    (Ka : ∀ b, q ≤ b → b < o → o < be → D b + w ≤ R → (∀ c, q ≤ c → c < b → bd_Sk R o be w D c) → post (nI b))
    (Kb : q ≤ o → o + 1 < be → (∀ c, q ≤ c → c < o → bd_Sk R o be w D c) → post (nI o))
    (Kc : (q ≤ o → be ≤ o + 1) → (∀ c, q ≤ c → c < o → bd_Sk R o be w D c) → post (-1)) :
    ∀ (n b : Nat), q ≤ b → o + 1 ≤ n + b → (b ≤ o ∨ (o < q ∧ b ≤ 100)) → 0 < n → (∀ c, q ≤ c → c < b → bd_Sk R o be w D c) → wX_nextBin_3 post (nI k) (nI q) (nI o) xB xP xR xO xC xE xW xK xL aS aL aR aP aO aW aN n (nI b) := by
  intro n
  induction n with
  | zero => intro b _ _ _ h; omega
  | succ n ih =>
    intro b hqb hn hb _ hs
    have z1 := hD2 b
    refine pk_le o b (fun c1 => ?_) (fun c1 => ?_)
    · refine pk_lt o q (fun c2 => Kc (fun h => absurd h (by omega)) (fun c h1 h2 => absurd h1 (by omega))) (fun c2 => ?_)
      have e : b = o := by omega
      subst e
      exact pk_le be (b + 1) (fun c3 => Kc (fun _ => c3) hs) (fun c3 => Kb c2 c3 hs) hE (nI_1 b)
    · have next : bd_Sk R o be w D b → wX_nextBin_3 post (nI k) (nI q) (nI o) xB xP xR xO xC xE xW xK xL aS aL aR aP aO aW aN n (nI (b + 1)) := fun h => ih (b + 1) (by omega) (by omega) (Or.inl (by omega)) (by omega) (fun c h1 h2 => by
        rcases Nat.lt_or_ge c b with z | z
        · exact hs c h1 z
        · have e : c = b := by omega
          rw [e]; exact h)
      refine pk_le be o (fun c2 => nm_r (nI_1 b) (next (Or.inl c2))) (fun c2 => ⟨vp_in_nI (by omega) (by omega), vp_in_nI (by omega) (by omega), ?_⟩) hE rfl
      rw [nI_clamp (show b < 2 ^ 31 by omega), nI_clamp (show k < 2 ^ 31 by omega), hD b (by omega), hw, nI_add]
      refine pk_lt R (D b + w) (fun c3 => nm_r (nI_1 b) (next (Or.inr (Or.inl c3)))) (fun c3 => ?_) hx rfl
      refine bx_seen (D := D) (by omega) hD (fun j => Nat.le_trans (hD2 j) hR) (fun h => ?_) ?_
      · exact br_f (by decide) (nm_r (nI_1 b) (next (Or.inr (Or.inr h))))
      · exact br_t rfl (Ka b hqb c1 c2 c3 hs)
theorem bx_nb {post : Int32 → Prop} {R o be w k q : Nat} {D : Nat → Nat} (hx : xR = nI R) (hR : R ≤ 480) (hE : xE = nI be) (hbe : be ≤ 100) (ho : o ≤ 15) (hk : k ≤ 15) (hq : q ≤ 100) (hw : aR k = nI w) (hw2 : w ≤ R) (hD : bd_Ag aL D) (hD2 : ∀ j, D j ≤ R)
    (Ka : ∀ b, q ≤ b → b < o → o < be → D b + w ≤ R → (∀ c, q ≤ c → c < b → bd_Sk R o be w D c) → post (nI b))
    (Kb : q ≤ o → o + 1 < be → (∀ c, q ≤ c → c < o → bd_Sk R o be w D c) → post (nI o))
    (Kc : (q ≤ o → be ≤ o + 1) → (∀ c, q ≤ c → c < o → bd_Sk R o be w D c) → post (-1)) : wpX_nextBin post (xB, xP, xR, xO, xC, xE, xW, xK, xL, aS, aL, aR, aP, aO, aW, aN) (nI k) (nI q) (nI o) :=
  ⟨o + 1, bx_nb3 hx hR hE hbe ho hk hq hw hw2 hD hD2 Ka Kb Kc (o + 1) q (Nat.le_refl q) (by omega) (by omega) (by omega) (fun c h1 h2 => absurd h1 (by omega))⟩
def bd_fr (R : Nat) (D : Nat → Nat) (o : Nat) : Nat := bd_sm (fun j => R - D j) o
theorem bx_ho38 {post : Int32 → Prop} {R o be F c : Nat} (hR0 : 0 < R) (hx : xR = nI R) (hR : R ≤ 480) (hE : xE = nI be) (hbe : be ≤ 100) (ho : o ≤ 15) (hF : F ≤ 10000) (hC : xC = nI c) (hc : c ≤ 15) :
    ∀ (t : List Nat) (k s n : Nat), k + t.length = c → t.length < n → bd_Al aR k t → (∀ w, w ∈ t → w ≤ R) → s ≤ k * 480 → (be ≤ o + bd_cl (s + t.sum) F R → post 0) → (o + bd_cl (s + t.sum) F R < be → post 1) →
      wX_hopeful_38 post (nI o) (nI F) xB xP xR xO xC xE xW xK xL aS aL aR aP aO aW aN n (nI s) (nI k) := by
  intro t
  induction t with
  | nil =>
    intro k s n hk hn hA hw hs h0 h1
    obtain ⟨n, rfl, _⟩ := bd_fu hn
    rw [List.length_nil] at hk
    rw [List.sum_nil, Nat.add_zero] at h0 h1
    have hb := bd_cl_b s F R
    refine pk_le c k (fun _ => ?_) (fun h => absurd h (by omega)) hC rfl
    rw [hx]
    refine bx_ceil (by omega) (by omega) hR0 (by omega) ?_
    exact pk_le be (o + bd_cl s F R) h0 h1 hE (nI_add _ _)
  | cons w t ih =>
    intro k s n hk hn hA hw hs h0 h1
    obtain ⟨n, rfl, _⟩ := bd_fu hn
    rw [List.length_cons] at hk hn
    rw [List.sum_cons, ← Nat.add_assoc] at h0 h1
    have hw1 := hw w (List.mem_cons_self ..)
    refine pk_le c k (fun h => absurd h (by omega)) (fun _ => ⟨vp_in_nI (by omega) (by omega), nm_r (e' := nI (s + w)) ?_ (nm_r (nI_1 k) (ih (k + 1) (s + w) n (by omega) (by omega) hA.2 (fun v hv => hw v (List.mem_cons_of_mem _ hv)) (by omega) h0 h1))⟩) hC rfl
    rw [nI_clamp (by omega), hA.1, nI_add]
theorem bx_ho5 {post : Int32 → Prop} {R o be k : Nat} {D : Nat → Nat} {t : List Nat} (hR0 : 0 < R) (hx : xR = nI R) (hR : R ≤ 480) (hE : xE = nI be) (hbe : be ≤ 100) (ho : o ≤ 15) (hC : xC = nI (k + t.length)) (hc : k + t.length ≤ 15) (hA : bd_Al aR k t) (hw : ∀ w, w ∈ t → w ≤ R) (hD : bd_Ag aL D) (hD2 : ∀ j, D j ≤ R)
    (h0 : be ≤ o + bd_cl t.sum (bd_fr R D o) R → post 0) (h1 : o + bd_cl t.sum (bd_fr R D o) R < be → post 1) :
    ∀ (d b n : Nat), b + d = o → d < n → wX_hopeful_5 post (nI k) (nI o) xB xP xR xO xC xE xW xK xL aS aL aR aP aO aW aN n (nI (bd_fr R D b)) (nI b) := by
  intro d
  induction d with
  | zero =>
    intro b n hb hn
    obtain ⟨n, rfl, _⟩ := bd_fu hn
    have e : b = o := by omega
    subst e
    have hf : bd_fr R D b ≤ b * R := bd_sm_le b (fun j _ => Nat.sub_le _ _)
    have hf2 : b * R ≤ 15 * 480 := Nat.mul_le_mul ho hR
    refine pk_le b b (fun _ => ⟨t.length + 1, ?_⟩) (fun h => absurd h (by omega))
    exact bx_ho38 hR0 hx hR hE hbe ho (by omega) hC hc t k 0 (t.length + 1) rfl (by omega) hA hw (by omega) (by rw [Nat.zero_add]; exact h0) (by rw [Nat.zero_add]; exact h1)
  | succ d ih =>
    intro b n hb hn
    obtain ⟨n, rfl, _⟩ := bd_fu hn
    refine pk_le o b (fun h => absurd h (by omega)) (fun _ => ⟨vp_in_nI (by omega) (by omega), nm_r (e' := nI (bd_fr R D (b + 1))) ?_ (nm_r (nI_1 b) (ih (b + 1) n (by omega) (by omega)))⟩)
    rw [nI_clamp (by omega), hD b (by omega), hx, pk_sub (hD2 b), nI_add]; rfl
theorem bx_ho {post : Int32 → Prop} {R o be k : Nat} {D : Nat → Nat} {t : List Nat} (hR0 : 0 < R) (hx : xR = nI R) (hR : R ≤ 480) (hE : xE = nI be) (hbe : be ≤ 100) (ho : o ≤ 15) (hC : xC = nI (k + t.length)) (hc : k + t.length ≤ 15) (hA : bd_Al aR k t) (hw : ∀ w, w ∈ t → w ≤ R) (hD : bd_Ag aL D) (hD2 : ∀ j, D j ≤ R)
    (h0 : be ≤ o + bd_cl t.sum (bd_fr R D o) R → post 0) (h1 : post 1) : wpX_hopeful post (xB, xP, xR, xO, xC, xE, xW, xK, xL, aS, aL, aR, aP, aO, aW, aN) (nI k) (nI o) :=
  ⟨o + 1, bx_ho5 hR0 hx hR hE hbe ho hC hc hA hw hD hD2 h0 (fun _ => h1) o 0 (o + 1) (by omega) (by omega)⟩
end
/-- what the hope bound means -/
theorem bd_hope {R o m : Nat} {t : List Nat} {D : Nat → Nat} (hR0 : 0 < R) (hD0 : ∀ j, o ≤ j → D j = 0) (hD2 : ∀ j, D j ≤ R) (hm : o ≤ m) (c : bd_CP R m t D) : o + bd_cl t.sum (bd_fr R D o) R ≤ m := by
  have h := bd_CP_sum t c
  have key : ∀ i, o ≤ i → bd_sm D i + bd_fr R D o = o * R := by
    intro i hi
    induction i with
    | zero =>
      have e : o = 0 := by omega
      subst e; simp [bd_sm, bd_fr]
    | succ i ih =>
      show bd_sm D i + D i + bd_fr R D o = o * R
      rcases Nat.lt_or_ge i o with z | z
      · have e : o = i + 1 := by omega
        subst e
        have k2 : ∀ i, bd_sm D i + bd_fr R D i = i * R := by
          intro i
          induction i with
          | zero => simp [bd_sm, bd_fr]
          | succ i ih2 =>
            have := hD2 i
            show bd_sm D i + D i + (bd_fr R D i + (R - D i)) = (i + 1) * R
            rw [Nat.add_mul]; omega
        exact k2 (i + 1)
      · rw [hD0 i z]; exact ih z
  have k := key m hm
  obtain ⟨d, rfl⟩ : ∃ d, m = o + d := ⟨m - o, by omega⟩
  rw [Nat.add_mul] at h
  have : bd_cl t.sum (bd_fr R D o) R ≤ d := bd_cl_le hR0 (by omega)
  omega
end
section
/-! ===== X: the search ===== -/
def bd_RR : Nat → Nat → Nat
  | _, 0 => 0
  | o, l + 1 => o * (1 + bd_RR o l) + (1 + bd_RR (o + 1) l) + 1
def bd_cq (o l q : Nat) : Nat := (if q ≤ o then (o - q) * (1 + bd_RR o l) + (1 + bd_RR (o + 1) l) else 0) + 1
theorem bd_cq_0 (o l : Nat) : bd_cq o l 0 = bd_RR o (l + 1) := by
  unfold bd_cq
  rw [if_pos (Nat.zero_le o), Nat.sub_zero]; rfl
theorem bd_cq_a {o l q b : Nat} (h : q ≤ b) (hb : b < o) : bd_cq o l (b + 1) + (1 + bd_RR o l) ≤ bd_cq o l q := by
  unfold bd_cq
  rw [if_pos (by omega), if_pos (by omega)]
  have e : (o - q) = (o - (b + 1)) + 1 + (b - q) := by omega
  rw [e, Nat.add_mul, Nat.add_mul, Nat.one_mul]
  omega
theorem bd_cq_b {o l q : Nat} (h : q ≤ o) : bd_cq o l (o + 1) + (1 + bd_RR (o + 1) l) ≤ bd_cq o l q := by
  unfold bd_cq
  rw [if_neg (by omega), if_pos h]
  omega
theorem bd_cq_1 (o l q : Nat) : 1 ≤ bd_cq o l q := by unfold bd_cq; omega
theorem bd_RR9 : ∀ o, o < 10 → ∀ l, l < 10 → o + l ≤ 9 → bd_RR o l ≤ 60000 := by decide +kernel
/-- what a search below loads D over the items L makes of the best count -/
def bd_Res (R : Nat) (L : List Nat) (o : Nat) (D : Nat → Nat) (be be' : Nat) : Prop := be' ≤ be ∧ (be' < be → o ≤ be' ∧ bd_CP R be' L D) ∧ ∀ m, o ≤ m → bd_CP R m L D → be' ≤ m
def bd_Inv (R o w : Nat) (t : List Nat) (D : Nat → Nat) (be q : Nat) : Prop := ∀ m, o ≤ m → ∀ x, x < q → x < m → bd_CP R m t (bd_ad D x w) → be ≤ m
theorem bd_inv_sk {R o w be q b : Nat} {t : List Nat} {D : Nat → Nat} (hi : bd_Inv R o w t D be q) (hs : ∀ c, q ≤ c → c < b → bd_Sk R o be w D c) : bd_Inv R o w t D be b := by
  intro m hm x
  induction x using Nat.strongRecOn with
  | ind x ih =>
    intro hx hxm c
    rcases Nat.lt_or_ge x q with z | z
    · exact hi m hm x z hxm c
    · rcases hs x z hx with h | h | ⟨y, hy, e⟩
      · omega
      · have := bd_CP_le t c x hxm
        rw [bd_ad_s] at this
        omega
      · exact ih y hy (by omega) (by omega) (bd_CP_seen hxm (by omega) e c)
theorem bd_inv_up {R o w be be' b now : Nat} {t : List Nat} {D : Nat → Nat} (hn : now = if b = o then o + 1 else o) (hi : bd_Inv R o w t D be b) (hr : bd_Res R t now (bd_ad D b w) be be') : bd_Inv R o w t D be' (b + 1) := by
  intro m hm x hx hxm c
  rcases Nat.lt_or_ge x b with z | z
  · exact Nat.le_trans hr.1 (hi m hm x z hxm c)
  · have e : x = b := by omega
    subst e
    refine hr.2.2 m ?_ c
    rw [hn]; split <;> omega
theorem bd_inv_end {R o w be q : Nat} {t : List Nat} {D : Nat → Nat} (hq : q ≤ o + 1) (hD : ∀ j, o ≤ j → D j = 0) (hi : bd_Inv R o w t D be q) (hs : ∀ c, q ≤ c → c < o → bd_Sk R o be w D c) (hb : q ≤ o → be ≤ o + 1) : ∀ m, o ≤ m → bd_CP R m (w :: t) D → be ≤ m := by
  intro m hm ⟨x, hx, c⟩
  rcases Nat.lt_or_ge q (o + 1) with z | z
  · have h1 := bd_inv_sk hi hs
    rcases Nat.lt_or_ge x o with y | y
    · exact h1 m hm x y hx c
    · have := hb (by omega)
      omega
  · have e : q = o + 1 := by omega
    subst e
    rcases Nat.lt_or_ge x (o + 1) with y | y
    · exact hi m hm x y hx c
    · exact hi m hm o (by omega) (by omega) (bd_CP_seen hx (by omega) (by rw [hD o (Nat.le_refl o), hD x (by omega)]) c)
section
variable {xB xP xR xO xC xE xW xK xL : Int32} {aS aL aR aP aO aW aN : Nat → Int32}
theorem bx_in {post : SX → Prop} {R r k o w C be0 : Nat} {t : List Nat} {D : Nat → Nat} {p0 o0 : Nat → Int32} (hx : xR = nI R) (hR : R ≤ 480) (hk : k ≤ 8) (ho : o ≤ 9) (hb0 : be0 ≤ 100) (hw : aR k = nI w) (hw2 : w ≤ R) (hD0 : ∀ j, o ≤ j → D j = 0) (hD2 : ∀ j, D j ≤ R) (hC : C ≤ 65535)
    (P : ∀ b now be c n a pl oa, now = (if b = o then o + 1 else o) → b ≤ o → now < be → be ≤ 100 → (∀ j, bd_ad D b w j ≤ R) → n + (c + 1) = 65537 → c + 1 + bd_RR now t.length ≤ 65535 → bd_Ag a (bd_ad D b w) →
      (∀ be' c' n' a' pl' oa', n' + c' = 65537 → c' ≤ c + 1 + bd_RR now t.length → bd_Res R t now (bd_ad D b w) be be' → bd_Ag a' (bd_ad D b w) → (∀ j, j ≤ k → pl' j = pl j ∧ oa' j = oa j) → wX_search_22 post xB xP xR xO xC xW xK xL n' (nI k) (nI c') (nI be') aS a' aR pl' oa' aW aN) →
      wX_search_133 post (wX_search_22 post xB xP xR xO xC xW xK xL n) (nI k) (nI c) (nI now) xB xP xR xO xC (nI be) xW xK xL aS a aR pl oa aW aN)
    (K : ∀ be' c' n' a' pl' oa', n' + c' = 65537 → c' ≤ C → bd_Res R (w :: t) o D be0 be' → bd_Ag a' D → (∀ j, j < k → pl' j = p0 j ∧ oa' j = o0 j) → wX_search_22 post xB xP xR xO xC xW xK xL n' (nI k + (-1)) (nI c') (nI be') aS a' aR pl' oa' aW aN) :
    ∀ d q be c n a pl oa, q + d = o + 1 → n + (c + 1) = 65537 → c + bd_cq o t.length q ≤ C → bd_Ag a D → pl k + 1 = nI q → oa k = nI o → (∀ j, j < k → pl j = p0 j ∧ oa j = o0 j) → bd_Inv R o w t D be q → be ≤ be0 → (be < be0 → o ≤ be ∧ bd_CP R be (w :: t) D) →
      wX_search_61 post (wX_search_22 post xB xP xR xO xC xW xK xL n) (nI k) (nI c) xB xP xR xO xC (nI be) xW xK xL aS a aR pl oa aW aN := by
  intro d
  induction d using Nat.strongRecOn with
  | ind d ih =>
    intro q be c n a pl oa hq hn hc hA hp hoa hag hi hbe hcp
    have hcq := bd_cq_1 o t.length q
    have ek : (nI k).toNatClampNeg = k := nI_clamp (by omega)
    have hin : vp_in (nI k) 16 := vp_in_nI (by omega) (by omega)
    -- one more item in bin b, then on
    have go : ∀ b, q ≤ b → b ≤ o → (if b = o then o + 1 else o) < be → (b < o → D b + w ≤ R) → (∀ c, q ≤ c → c < b → bd_Sk R o be w D c) → ∀ pl2, pl2 = upd pl k (nI b) → ∀ a2, a2 = upd a b (nI (D b + w)) →
        wX_search_133 post (wX_search_22 post xB xP xR xO xC xW xK xL n) (nI k) (nI c) (nI (if b = o then o + 1 else o)) xB xP xR xO xC (nI be) xW xK xL aS a2 aR pl2 oa aW aN := by
      intro b hqb hbo hnow hfit hsk pl2 epl a2 ea2
      have hcost : bd_cq o t.length (b + 1) + (1 + bd_RR (if b = o then o + 1 else o) t.length) ≤ bd_cq o t.length q := by
        by_cases e : b = o
        · rw [if_pos e, e]; exact bd_cq_b (by omega)
        · rw [if_neg e]; exact bd_cq_a hqb (by omega)
      have hcq2 := bd_cq_1 o t.length (b + 1)
      have hle : ∀ j, bd_ad D b w j ≤ R := by
        intro j
        by_cases e : j = b
        · subst e
          rw [bd_ad_s]
          rcases Nat.lt_or_ge j o with z | z
          · exact hfit z
          · rw [hD0 j z]; omega
        · rw [bd_ad_n e]; exact hD2 j
      refine P b _ be c n a2 pl2 oa rfl hbo hnow (by omega) hle hn (by omega) (by rw [ea2]; exact bd_Ag_ad hA) ?_
      intro be' c' n' a' pl' oa' hn' hc' hres hA' hag'
      have hplk : pl' k = nI b := by rw [(hag' k (Nat.le_refl k)).1, epl, pk_us]
      have hoak : oa' k = nI o := by rw [(hag' k (Nat.le_refl k)).2, hoa]
      have hag2 : ∀ j, j < k → pl' j = p0 j ∧ oa' j = o0 j := fun j hj => by
        have h1 := hag' j (by omega)
        have h2 := hag j hj
        exact ⟨by rw [h1.1, epl, pk_un (by omega), h2.1], by rw [h1.2, h2.2]⟩
      have hi2 : bd_Inv R o w t D be' (b + 1) := bd_inv_up rfl (bd_inv_sk hi hsk) hres
      have hcp2 : be' < be0 → o ≤ be' ∧ bd_CP R be' (w :: t) D := by
        intro hlt
        have h1 := hres.1
        rcases Nat.lt_or_ge be' be with z | z
        · obtain ⟨h2, h3⟩ := hres.2.1 z
          have h4 : b < be' ∧ o ≤ be' := by
            by_cases e : b = o
            · rw [if_pos e] at h2; omega
            · rw [if_neg e] at h2; omega
          exact ⟨h4.2, b, h4.1, h3⟩
        · have e : be' = be := by omega
          rw [e]; exact hcp (by omega)
      have hbe2 := hres.1
      obtain ⟨n2, rfl, _⟩ : ∃ n2, n' = n2 + 1 ∧ True := ⟨n' - 1, by omega, trivial⟩
      refine pk_le 65536 c' (fun h => absurd h (by omega)) (fun _ => br_f (nI_pos (by omega)) ⟨hin, ?_⟩)
      rw [ek, hplk]
      refine br_f (nI_pos (by omega)) ⟨hin, vp_in_nI (by omega) (by omega), hin, vp_in_nI (by omega) (by omega), fun a70 e70 => ?_⟩
      rw [nI_clamp (show b < 2 ^ 31 by omega), hw, hA' b (by omega), bd_ad_s, pk_sub (by omega), Nat.add_sub_cancel] at e70
      exact ih (o - b) (by omega) (b + 1) be' c' n2 a70 pl' oa' (by omega) (by omega) (by omega) (by rw [e70]; exact bd_Ag_sb hA') (by rw [hplk, nI_1]) hoak hag2 hi2 (by omega) hcp2
    refine ⟨hin, nm_r (e' := nI o) (by rw [ek, hoa]) ⟨hin, ?_⟩⟩
    rw [ek, hp]
    refine bx_nb (xE := nI be) (D := D) (w := w) hx hR rfl (by omega) (by omega) (by omega) (by omega) hw hw2 hA hD2 (fun b h1 h2 h3 h4 h5 => ?_) (fun h1 h2 h3 => ?_) (fun h1 h2 => ?_)
    · refine ⟨hin, fun pl2 epl => br_t (nI_pos' (by omega)) ⟨vp_in_nI (by omega) (by omega), hin, vp_in_nI (by omega) (by omega), fun a2 ea2 => br_f (fun z => ?_) ?_⟩⟩
      · rw [nI_eq (by omega) (by omega)] at z; omega
      · have g := go b h1 (by omega) (by rw [if_neg (by omega)]; exact h3) (fun _ => h4) h5 pl2 (by rw [epl, bd_by (by omega)]) a2 (by rw [ea2, nI_clamp (by omega), hA b (by omega), hw, nI_add])
        rw [if_neg (show ¬ b = o by omega)] at g
        exact g
    · refine ⟨hin, fun pl2 epl => br_t (nI_pos' (by omega)) ⟨vp_in_nI (by omega) (by omega), hin, vp_in_nI (by omega) (by omega), fun a2 ea2 => br_t rfl ?_⟩⟩
      have g := go o h1 (Nat.le_refl o) (by rw [if_pos rfl]; exact h2) (fun z => absurd z (by omega)) h3 pl2 (by rw [epl, bd_by (by omega)]) a2 (by rw [ea2, nI_clamp (by omega), hA o (by omega), hw, nI_add])
      rw [if_pos rfl] at g
      rw [nI_1]
      exact g
    · refine ⟨hin, fun pl2 epl => br_f (by decide) (nm_e (nm_r (nI_1 c) (K be (c + 1) n a pl2 oa hn (by omega) ⟨hbe, hcp, bd_inv_end (by omega) hD0 hi h2 h1⟩ hA (fun j hj => ?_))))⟩
      rw [epl, pk_un (by omega)]
      exact hag j hj
theorem bx_lev {post : SX → Prop} {R r : Nat} (hx : xR = nI R) (hR0 : 0 < R) (hR : R ≤ 480) (hC : xC = nI r) (hr : r ≤ 9) :
    ∀ (t : List Nat) (w k o be c n : Nat) (D : Nat → Nat) (a pl oa : Nat → Int32), n + c = 65537 → c + bd_RR o (t.length + 1) ≤ 65535 → k + (t.length + 1) = r → o + (t.length + 1) ≤ 9 → be ≤ 100 →
      aR k = nI w → bd_Al aR (k + 1) t → w ≤ R → (∀ v, v ∈ t → v ≤ R) → bd_Ag a D → (∀ j, o ≤ j → D j = 0) → (∀ j, D j ≤ R) → pl k = -1 → oa k = nI o →
      (∀ be' c' n' a' pl' oa', n' + c' = 65537 → c' ≤ c + bd_RR o (t.length + 1) → bd_Res R (w :: t) o D be be' → bd_Ag a' D → (∀ j, j < k → pl' j = pl j ∧ oa' j = oa j) → wX_search_22 post xB xP xR xO xC xW xK xL n' (nI k + (-1)) (nI c') (nI be') aS a' aR pl' oa' aW aN) →
      wX_search_22 post xB xP xR xO xC xW xK xL n (nI k) (nI c) (nI be) aS a aR pl oa aW aN := by
  intro t
  induction t with
  | nil =>
    intro w k o be c n D a pl oa hn hc hk ho hbe hw hA hw2 hv hAg hD0 hD2 hpl hoa K
    rw [List.length_nil] at hk ho
    obtain ⟨n, rfl, _⟩ : ∃ n2, n = n2 + 1 ∧ True := ⟨n - 1, by omega, trivial⟩
    have hin : vp_in (nI k) 16 := vp_in_nI (by omega) (by omega)
    have ek : (nI k).toNatClampNeg = k := nI_clamp (by omega)
    have hcq := bd_cq_1 o ([] : List Nat).length 0
    rw [bd_cq_0] at hcq
    refine pk_le 65536 c (fun h => absurd h (by omega)) (fun _ => br_f (nI_pos (by omega)) ⟨hin, ?_⟩)
    rw [ek, hpl]
    refine br_t bd_m1 ?_
    refine bx_in (R := R) (r := r) (k := k) (o := o) (w := w) (C := c + bd_RR o (([] : List Nat).length + 1)) (be0 := be) (t := []) (D := D) (p0 := pl) (o0 := oa) hx hR (by omega) (by omega) hbe hw hw2 hD0 hD2 hc ?_ K (o + 1) 0 be c n a pl oa (by omega) (by omega) (by rw [bd_cq_0]; exact Nat.le_refl _) hAg (by rw [hpl]; rfl) hoa (fun j _ => ⟨rfl, rfl⟩) (fun m _ x hx => absurd hx (Nat.not_lt_zero x)) (Nat.le_refl be) (fun z => absurd z (Nat.lt_irrefl be))
    intro b now be2 c2 n2 a2 pl2 oa2 hnow hbo hlt hbe2 hle hn2 hc2 hA2 K2
    refine pk_eq k (r - 1) (fun _ => nm_r (nI_1 c2) (K2 now (c2 + 1) n2 a2 pl2 oa2 hn2 (by omega) ⟨by omega, fun _ => ⟨Nat.le_refl _, fun j _ => hle j⟩, fun m hm _ => hm⟩ hA2 (fun j _ => ⟨rfl, rfl⟩))) (fun h => absurd (show k = r - 1 by omega) h) rfl ?_
    rw [hC]
    exact pk_sub (a := r) (b := 1) (by omega)
  | cons v t ih =>
    intro w k o be c n D a pl oa hn hc hk ho hbe hw hA hw2 hv hAg hD0 hD2 hpl hoa K
    rw [List.length_cons] at hk ho
    obtain ⟨n, rfl, _⟩ : ∃ n2, n = n2 + 1 ∧ True := ⟨n - 1, by omega, trivial⟩
    have hin : vp_in (nI k) 16 := vp_in_nI (by omega) (by omega)
    have ek : (nI k).toNatClampNeg = k := nI_clamp (by omega)
    have hcq := bd_cq_1 o (v :: t).length 0
    rw [bd_cq_0] at hcq
    refine pk_le 65536 c (fun h => absurd h (by omega)) (fun _ => br_f (nI_pos (by omega)) ⟨hin, ?_⟩)
    rw [ek, hpl]
    refine br_t bd_m1 ?_
    refine bx_in (R := R) (r := r) (k := k) (o := o) (w := w) (C := c + bd_RR o ((v :: t).length + 1)) (be0 := be) (t := v :: t) (D := D) (p0 := pl) (o0 := oa) hx hR (by omega) (by omega) hbe hw hw2 hD0 hD2 hc ?_ K (o + 1) 0 be c n a pl oa (by omega) (by omega) (by rw [bd_cq_0]; exact Nat.le_refl _) hAg (by rw [hpl]; rfl) hoa (fun j _ => ⟨rfl, rfl⟩) (fun m _ x hx => absurd hx (Nat.not_lt_zero x)) (Nat.le_refl be) (fun z => absurd z (Nat.lt_irrefl be))
    intro b now be2 c2 n2 a2 pl2 oa2 hnow hbo hlt hbe2 hle hn2 hc2 hA2 K2
    have hno : now ≤ o + 1 ∧ o ≤ now ∧ b < now := by rw [hnow]; split <;> omega
    have hD0' : ∀ j, now ≤ j → bd_ad D b w j = 0 := fun j hj => by rw [bd_ad_n (by omega)]; exact hD0 j (by omega)
    refine pk_eq k (r - 1) (fun h => absurd h (by omega)) (fun _ => ?_) rfl (by rw [hC]; exact pk_sub (a := r) (b := 1) (by omega))
    rw [nI_1 k]
    refine bx_ho (xE := nI be2) (D := bd_ad D b w) (t := v :: t) hR0 hx hR rfl (by omega) (by omega) (by rw [hC, List.length_cons]; exact congrArg nI (by omega)) (by rw [List.length_cons]; omega) hA hv hA2 hle (fun h0 => ?_) ?_
    · exact br_t rfl (nm_r (nI_1 c2) (K2 be2 (c2 + 1) n2 a2 pl2 oa2 hn2 (by omega) ⟨Nat.le_refl _, fun z => absurd z (Nat.lt_irrefl _), fun m hm cp => Nat.le_trans h0 (bd_hope hR0 hD0' hle hm cp)⟩ hA2 (fun j _ => ⟨rfl, rfl⟩)))
    · refine br_f (by decide) (nm_e ⟨vp_in_nI (by omega) (by omega), fun p59 e59 => ⟨vp_in_nI (by omega) (by omega), fun o61 e61 => nm_r (nI_1 c2) ?_⟩⟩)
      rw [nI_clamp (show k + 1 < 2 ^ 31 by omega), bd_bm] at e59
      rw [nI_clamp (show k + 1 < 2 ^ 31 by omega), bd_by (show now < 64 by omega)] at e61
      refine ih v (k + 1) now be2 (c2 + 1) n2 (bd_ad D b w) a2 p59 o61 hn2 (by rw [List.length_cons] at hc2; exact hc2) (by omega) (by omega) hbe2 hA.1 hA.2 (hv v (List.mem_cons_self ..)) (fun u hu => hv u (List.mem_cons_of_mem _ hu)) hA2 hD0' hle (by rw [e59, pk_us]) (by rw [e61, pk_us]) ?_
      intro be' c' n' a' pl' oa' h1 h2 h3 h4 h5
      rw [pk_m1 k]
      refine K2 be' c' n' a' pl' oa' h1 (by rw [List.length_cons]; exact h2) h3 h4 (fun j hj => ?_)
      have := h5 j (by omega)
      rw [this.1, this.2, e59, e61, pk_un (by omega), pk_un (by omega)]
      exact ⟨rfl, rfl⟩
theorem bx_search {post : SX → Prop} {R o be : Nat} {D : Nat → Nat} {L : List Nat} (q : bd_Q R o D L xR xO xC aL aR) (hL : L ≠ []) (hE : xE = nI be) (hbe : be ≤ 100)
    (K : ∀ be' a p a2, bd_Res R L o D be be' → post (xB, xP, xR, xO, xC, nI be', xW, xK, xL, aS, a, aR, p, a2, aW, aN)) : wpX_search post (xB, xP, xR, xO, xC, xE, xW, xK, xL, aS, aL, aR, aP, aO, aW, aN) := by
  obtain ⟨q1, q2, q3, q4, q5, q6, q7, q8, q9, q10, q11⟩ := q
  cases L with
  | nil => exact absurd rfl hL
  | cons w t =>
    rw [List.length_cons] at q3 q6
    refine fun p2 e2 o4 e4 => ⟨65537, ?_⟩
    rw [bd_bm] at e2
    rw [q2, bd_by (show o < 64 by omega)] at e4
    have hrr := bd_RR9 o (by omega) (t.length + 1) (by omega) (by omega)
    rw [hE]
    refine bx_lev q1 q4 q5 q3 (by omega) t w 0 o be 0 65537 D aL p2 o4 rfl (by omega) (by omega) (by omega) hbe q10.1 q10.2 (q11 w (List.mem_cons_self ..)) (fun v hv => q11 v (List.mem_cons_of_mem _ hv)) q7 q8 q9 (by rw [e2, pk_us]) (by rw [e4, pk_us]) ?_
    intro be' c' n' a' pl' oa' h1 h2 h3 h4 h5
    obtain ⟨n, rfl, _⟩ : ∃ n2, n' = n2 + 1 ∧ True := ⟨n' - 1, by omega, trivial⟩
    refine pk_le 65536 c' (fun h => absurd h (by omega)) (fun _ => br_t (by decide) ?_)
    exact K be' a' pl' oa' h3
theorem bx_solve {post : Int32 → SX → Prop} {R o : Nat} {D : Nat → Nat} {L : List Nat} (q : bd_Q R o D L xR xO xC aL aR)
    (K : ∀ m e z a p a2 a3, bd_Op R L o D m → m ≤ 9 → post (nI m) (xB, xP, xR, xO, xC, e, z, xK, xL, aS, a, aR, p, a2, a3, aN)) : wpX_solve post (xB, xP, xR, xO, xC, xE, xW, xK, xL, aS, aL, aR, aP, aO, aW, aN) := by
  have q' := q
  obtain ⟨q1, q2, q3, q4, q5, q6, q7, q8, q9, q10, q11⟩ := q
  by_cases hL : L = []
  · subst hL
    have h0 : xC = 0 := q3
    have := K o xE xW aL aP aO aW ⟨Nat.le_refl o, fun b _ => q9 b, fun m h _ => h⟩ (by omega)
    rw [← q2] at this
    exact br_t h0 this
  · have hl : 0 < L.length := List.length_pos_iff.mpr hL
    refine br_f (by rw [q3]; exact nI_ne0 hl (by omega)) ?_
    refine bx_ff q' (fun m a p h1 h2 h3 h4 => ?_)
    refine bx_lb (xE := nI m) (D := D) (L := L) (o := o) (R := R) ⟨q1, q2, q3, q4, q5, q6, h4, q8, q9, q10, q11⟩ (fun d z a3 hd1 hd2 => ?_)
    refine pk_le m d (fun hmd => ?_) (fun hmd => ?_)
    · exact K m _ _ _ _ _ _ ⟨h1, h3, fun m' g1 g2 => Nat.le_trans hmd (hd2 m' g1 g2)⟩ (by omega)
    · refine bx_search (be := m) (D := D) (L := L) (o := o) (R := R) ⟨q1, q2, q3, q4, q5, q6, h4, q8, q9, q10, q11⟩ hL rfl (by omega) (fun be' a5 p5 a6 hres => ?_)
      have hr1 := hres.1
      refine K be' _ _ _ _ _ _ ⟨?_, ?_, hres.2.2⟩ (by omega)
      · rcases Nat.lt_or_ge be' m with z | z
        · exact (hres.2.1 z).1
        · omega
      · rcases Nat.lt_or_ge be' m with z | z
        · exact (hres.2.1 z).2
        · have e : be' = m := by omega
          rw [e]; exact h3
end
end
section
/-! ===== Y: small methods ===== -/
/-- the present items' places, in order -/
def bd_pr (s : Nat → Nat) : Nat → List Nat
  | 0 => []
  | k + 1 => if s k = 0 then bd_pr s k else bd_pr s k ++ [k]
theorem bd_pr_len (s : Nat → Nat) : ∀ k, (bd_pr s k).length ≤ k
  | 0 => Nat.le_refl 0
  | k + 1 => by
    have := bd_pr_len s k
    show (if s k = 0 then bd_pr s k else bd_pr s k ++ [k]).length ≤ k + 1
    split
    · omega
    · rw [List.length_append, List.length_singleton]; omega
theorem bd_pr_mem {s : Nat → Nat} {j : Nat} : ∀ {k : Nat}, j ∈ bd_pr s k → j < k ∧ 0 < s j
  | 0, h => by cases h
  | k + 1, h => by
    have h' : j ∈ (if s k = 0 then bd_pr s k else bd_pr s k ++ [k]) := h
    split at h'
    · have := bd_pr_mem h'
      exact ⟨by omega, this.2⟩
    · rcases List.mem_append.mp h' with e | e
      · have := bd_pr_mem e
        exact ⟨by omega, this.2⟩
      · rw [List.mem_singleton.mp e]; exact ⟨by omega, by omega⟩
theorem bd_gm (b g : Nat) (hb : b < 1000) (hg : g < 1000) : nI b ≤ nI g + (-1) ↔ b < g := by
  cases g with
  | zero =>
    constructor
    · intro h
      have h2 : nI b < 0 := Int32.lt_of_le_of_lt h (show nI 0 + (-1) < 0 by decide)
      exact absurd h2 (nI_pos (by omega))
    · intro h; omega
  | succ g =>
    rw [pk_m1, nI_leI (by omega) (by omega)]; omega
theorem bd_gl (b g : Nat) (hb : b < 1000) (hg : g < 1000) : nI g + (-1) < nI b ↔ g ≤ b := by
  have := bd_gm b g hb hg
  rw [← Int32.not_le, this]; omega
theorem bd_g1 (g : Nat) : nI g + (-1) + 1 = nI g := by
  rw [Int32.add_assoc, show (-1 : Int32) + 1 = 0 from by decide, Int32.add_zero]
/-- the reference's sizes, present items and their places -/
def bd_YS (s : Nat → Nat) (yN : Int32) (bS bI : Nat → Int32) : Prop := (∀ j, j < 8 → bS j = nI (s j)) ∧ (∀ j, s j ≤ 60) ∧ yN = nI (bd_pr s 8).length ∧ bd_Al bI 0 (bd_pr s 8)
section
variable {yR yN : Int32} {bS bI bB : Nat → Int32}
theorem by_is {post : Int32 → Prop} {s : Nat → Nat} (hS : ∀ j, j < 8 → bS j = nI (s j)) (hs : ∀ j, s j ≤ 60) {i : Nat} (hi : i < 8) (h1 : 0 < s i → post 1) (h0 : s i = 0 → post 0) : wpY_is post (yR, yN, bS, bI, bB) (nI i) := by
  have := hs i
  refine br_f (nI_pos (by omega)) (pk_le 8 i (fun h => absurd h (by omega)) (fun _ => ⟨vp_in_nI hi (by omega), ?_⟩))
  rw [nI_clamp (by omega), hS i hi]
  exact pk_le (s i) 0 (fun h => h0 (by omega)) (fun h => h1 h)
theorem by_is_o {post : Int32 → Prop} {x : Int32} (hx : ¬ ∃ i, i < 8 ∧ x = nI i) (h : post 0) : wpY_is post (yR, yN, bS, bI, bB) x := by
  rcases pk_ix x (n := 8) (by decide) with z | z | z
  · exact br_t z h
  · by_cases n : x < 0
    · exact br_t n h
    · exact br_f n (br_t z h)
  · exact absurd z hx
theorem by_first7 {post : SY → Prop} {s : Nat → Nat} (hS : ∀ j, j < 8 → bS j = nI (s j)) (hs : ∀ j, s j ≤ 60) (K : ∀ a b, bd_Al a 0 (bd_pr s 8) → (∀ j, j < 8 → b j = nI 0) → post (yR, nI (bd_pr s 8).length, bS, a, b)) :
    ∀ (d i n : Nat) (a b : Nat → Int32), i + d = 8 → d < n → bd_Al a 0 (bd_pr s i) → (∀ j, j < i → b j = nI 0) → wY_first_7 post yR n (nI i) (nI (bd_pr s i).length) bS a b := by
  intro d
  induction d with
  | zero =>
    intro i n a b hi hn h1 h2
    obtain ⟨n, rfl, _⟩ := bd_fu hn
    have e : i = 8 := by omega
    subst e
    exact pk_le 8 8 (fun _ => K a b h1 h2) (fun h => absurd h (by omega))
  | succ d ih =>
    intro i n a b hi hn h1 h2
    obtain ⟨n, rfl, _⟩ := bd_fu hn
    have hl := bd_pr_len s i
    refine pk_le 8 i (fun h => absurd h (by omega)) (fun _ => ⟨vp_in_nI (by omega) (by omega), fun b3 e3 => ?_⟩)
    rw [nI_clamp (by omega)] at e3
    have h2' : ∀ j, j < i + 1 → b3 j = nI 0 := fun j hj => by
      rw [e3]
      by_cases e : j = i
      · subst e; rw [pk_us]; rfl
      · rw [pk_un e]; exact h2 j (by omega)
    refine by_is hS hs (by omega) (fun hp => ?_) (fun h0 => ?_)
    · refine br_f (by decide) ⟨vp_in_nI (by omega) (by omega), fun a13 e13 => ?_⟩
      rw [nI_clamp (by omega)] at e13
      have e : bd_pr s (i + 1) = bd_pr s i ++ [i] := if_neg (by omega)
      have := ih (i + 1) n a13 b3 (by omega) (by omega) (by rw [e, e13]; exact bd_Al_put (by omega) h1) h2'
      rw [e, List.length_append, List.length_singleton] at this
      exact nm_r (nI_1 _) (nm_r (nI_1 _) this)
    · have e : bd_pr s (i + 1) = bd_pr s i := if_pos h0
      have := ih (i + 1) n a b3 (by omega) (by omega) (by rw [e]; exact h1) h2'
      rw [e] at this
      exact br_t rfl (nm_r (nI_1 _) this)
theorem by_first {post : SY → Prop} {s : Nat → Nat} (hS : ∀ j, j < 8 → bS j = nI (s j)) (hs : ∀ j, s j ≤ 60) (K : ∀ a b, bd_Al a 0 (bd_pr s 8) → (∀ j, j < 8 → b j = nI 0) → post (yR, nI (bd_pr s 8).length, bS, a, b)) : wpY_first post (yR, yN, bS, bI, bB) :=
  ⟨9, by_first7 hS hs K 8 0 9 bI bB rfl (by omega) trivial (fun j hj => absurd hj (Nat.not_lt_zero j))⟩
theorem by_gr4 {post : Int32 → Prop} {c : Nat} (hc : c ≤ 8) : ∀ (t : List Nat) (g j n : Nat), j + t.length = c → t.length < n → bd_Al bB j t → (∀ b, b ∈ t → b < 100) → g < 200 → post (nI (bd_ct g t) + (-1)) → wY_greatest_4 post (nI c) yR yN bS bI bB n (nI g + (-1)) (nI j) := by
  intro t
  induction t with
  | nil =>
    intro g j n hj hn hA hb hg hp
    obtain ⟨n, rfl, _⟩ := bd_fu hn
    rw [List.length_nil] at hj
    exact pk_le c j (fun _ => hp) (fun h => absurd h (by omega))
  | cons b t ih =>
    intro g j n hj hn hA hb hg hp
    obtain ⟨n, rfl, _⟩ := bd_fu hn
    rw [List.length_cons] at hj hn
    have hb1 := hb b (List.mem_cons_self ..)
    have hp' : post (nI (bd_ct (max g (b + 1)) t) + (-1)) := hp
    have step := ih (max g (b + 1)) (j + 1) n (by omega) (by omega) hA.2 (fun d hd => hb d (List.mem_cons_of_mem _ hd)) (by omega) hp'
    refine pk_le c j (fun h => absurd h (by omega)) (fun _ => ⟨vp_in_nI (by omega) (by omega), ?_⟩)
    rw [nI_clamp (by omega), hA.1]
    refine br_c (fun h => ?_) (fun h => ?_)
    · rw [bd_gm b g (by omega) (by omega)] at h
      rw [Nat.max_eq_left (by omega)] at step
      exact nm_r (nI_1 j) step
    · rw [bd_gm b g (by omega) (by omega)] at h
      rw [Nat.max_eq_right (by omega)] at step
      refine ⟨vp_in_nI (by omega) (by omega), nm_r (e' := nI (b + 1) + (-1)) (pk_m1 b).symm (nm_r (nI_1 j) step)⟩
theorem by_gr {post : Int32 → Prop} {p : List Nat} (hp : p.length ≤ 8) (hA : bd_Al bB 0 p) (hb : ∀ b, b ∈ p → b < 100) (h : post (nI (bd_ct 0 p) + (-1))) : wpY_greatest post (yR, yN, bS, bI, bB) (nI p.length) :=
  ⟨p.length + 1, by_gr4 hp p 0 0 (p.length + 1) (by omega) (by omega) hA hb (by omega) h⟩
theorem by_nx39 {post : Int32 → SY → Prop} {q : List Nat} {c : Nat} (hN : yN = nI (q.length + c)) (hc : q.length + c ≤ 8) (K : ∀ b, bd_Al b 0 (q ++ List.replicate c 0) → post 1 (yR, yN, bS, bI, b)) :
    ∀ (d i n : Nat) (b : Nat → Int32), i + d = c → d < n → bd_Al b 0 (q ++ List.replicate i 0) → wY_next_39 post yR yN n (nI (q.length + i)) bS bI b := by
  intro d
  induction d with
  | zero =>
    intro i n b hi hn hA
    obtain ⟨n, rfl, _⟩ := bd_fu hn
    have e : i = c := by omega
    subst e
    exact pk_le (q.length + i) (q.length + i) (fun _ => K b hA) (fun h => absurd h (by omega)) hN rfl
  | succ d ih =>
    intro i n b hi hn hA
    obtain ⟨n, rfl, _⟩ := bd_fu hn
    refine pk_le (q.length + c) (q.length + i) (fun h => absurd h (by omega)) (fun _ => ⟨vp_in_nI (by omega) (by omega), fun b18 e18 => nm_r (nI_1 _) (ih (i + 1) n b18 (by omega) (by omega) ?_)⟩) hN rfl
    rw [nI_clamp (by omega)] at e18
    rw [e18, List.replicate_succ', ← List.append_assoc]
    exact bd_Al_put (w := 0) (by simp) hA
theorem by_nx7 {post : Int32 → SY → Prop} {y : List Nat} (hN : yN = nI y.length) (hy : y.length ≤ 8) (hA : bd_Al bB 0 y) (hb : ∀ b, b ∈ y → b < 90) (K0 : bd_nx 0 y = none → post 0 (yR, yN, bS, bI, bB)) (K1 : ∀ y' b, bd_nx 0 y = some y' → bd_Al b 0 y' → post 1 (yR, yN, bS, bI, b)) :
    ∀ (k n : Nat) (p t : List Nat) (c : Nat), p.length = k → k < n → p ++ c :: t = y → bd_nx (bd_ct 0 (p ++ [c])) t = none → wY_next_7 post yR yN bS bI bB n (nI k) := by
  intro k
  induction k with
  | zero =>
    intro n p t c hk hn e hnone
    obtain ⟨n, rfl, _⟩ := bd_fu hn
    have ep : p = [] := List.eq_nil_of_length_eq_zero hk
    subst ep
    refine pk_le 0 0 (fun _ => K0 ?_) (fun h => absurd h (by omega))
    rw [← e]
    show bd_nx 0 (c :: t) = none
    rw [bd_nx_none hnone, if_neg (by omega)]
  | succ k ih =>
    intro n p t c hk hn e hnone
    obtain ⟨n, rfl, _⟩ := bd_fu hn
    have hyl : y.length = k + 1 + (t.length + 1) := by rw [← e, List.length_append, List.length_cons, hk]
    have hAp : bd_Al bB 0 p ∧ bB (k + 1) = nI c ∧ bd_Al bB (k + 1 + 1) t := by
      rw [← e, bd_Al_app] at hA
      rw [show 0 + p.length = k + 1 from by omega] at hA
      exact ⟨hA.1, hA.2.1, hA.2.2⟩
    have hc90 : c < 90 := hb c (by rw [← e]; simp)
    have hp90 : ∀ b, b ∈ p → b < 90 := fun b h => hb b (by rw [← e]; simp [h])
    have hct : bd_ct 0 p ≤ 90 := bd_ct_le p (by omega) hp90
    have ect : bd_ct 0 (p ++ [c]) = max (bd_ct 0 p) (c + 1) := by rw [bd_ct_app]; rfl
    rw [ect] at hnone
    have hin : vp_in (nI (k + 1)) 8 := vp_in_nI (by omega) (by omega)
    have ek : (nI (k + 1)).toNatClampNeg = k + 1 := nI_clamp (by omega)
    refine pk_le (k + 1) 0 (fun h => absurd h (by omega)) (fun _ => ⟨hin, ?_⟩)
    rw [← hk]
    refine by_gr (p := p) (by omega) hAp.1 (fun b h => by have := hp90 b h; omega) ?_
    rw [hk, ek, hAp.2.1]
    refine br_c (fun h => ?_) (fun h => ?_)
    · rw [bd_gl c _ (by omega) (by omega)] at h
      refine nm_r (pk_m1 k) ?_
      obtain ⟨p', c', rfl⟩ : ∃ p' c', p = p' ++ [c'] := by
        have hne : p ≠ [] := fun z => by rw [z] at hk; cases hk
        exact ⟨p.dropLast, p.getLast hne, (List.dropLast_concat_getLast hne).symm⟩
      refine ih n p' (c :: t) c' (by rw [List.length_append] at hk; simpa using hk) (by omega) (by rw [← e]; simp) ?_
      rw [bd_nx_none hnone, if_neg (by omega)]
    · rw [bd_gl c _ (by omega) (by omega)] at h
      refine ⟨hin, hin, fun b14 e14 => nm_r (nI_1 _) ⟨t.length + 1, ?_⟩⟩
      rw [nI_1] at e14
      have hq : (p ++ [c + 1]).length = k + 1 + 1 := by rw [List.length_append, hk]; rfl
      have := by_nx39 (yR := yR) (bS := bS) (bI := bI) (post := post) (q := p ++ [c + 1]) (c := t.length) (yN := yN) (by rw [hN, hyl, hq]; exact congrArg nI (by omega)) (by rw [hq]; omega) (fun b hAb => K1 (p ++ (c + 1) :: List.replicate t.length 0) b (by
        rw [← e, bd_nx_app, bd_nx_none hnone, if_pos (by omega)]) (by rw [List.append_assoc] at hAb; exact hAb)) t.length 0 (t.length + 1) b14 (by omega) (by omega) (by
          rw [e14, List.replicate_zero, List.append_nil]
          exact bd_Al_put (by omega) hAp.1)
      rw [hq] at this
      exact this
theorem by_nx {post : Int32 → SY → Prop} {y : List Nat} (hN : yN = nI y.length) (hne : y ≠ []) (hy : y.length ≤ 8) (hA : bd_Al bB 0 y) (hb : ∀ b, b ∈ y → b < 90) (K0 : bd_nx 0 y = none → post 0 (yR, yN, bS, bI, bB)) (K1 : ∀ y' b, bd_nx 0 y = some y' → bd_Al b 0 y' → post 1 (yR, yN, bS, bI, b)) : wpY_next post (yR, yN, bS, bI, bB) := by
  have hl : 0 < y.length := List.length_pos_iff.mpr hne
  refine nm_r (e' := nI (y.length - 1)) (by rw [hN]; exact pk_sub (a := y.length) (b := 1) (by omega)) ⟨y.length, ?_⟩
  refine by_nx7 hN hy hA hb K0 K1 (y.length - 1) y.length y.dropLast [] (y.getLast hne) (by rw [List.length_dropLast]) (by omega) (List.dropLast_concat_getLast hne) rfl
theorem by_load4 {post : Int32 → Prop} {s : Nat → Nat} {b c : Nat} (hS : ∀ j, j < 8 → bS j = nI (s j)) (hN : yN = nI c) (hc : c ≤ 8) (hb : b < 1000) :
    ∀ (y ids : List Nat) (k v n : Nat), k + y.length = c → ids.length = y.length → y.length < n → bd_Al bB k y → bd_Al bI k ids → (∀ d, d ∈ ids → d < 8) → (∀ d, d ∈ y → d < 1000) → post (nI (v + bd_ld y (ids.map s) b)) → wY_load_4 post (nI b) yR yN bS bI bB n (nI v) (nI k) := by
  intro y
  induction y with
  | nil =>
    intro ids k v n hk hi hn h1 h2 h3 h4 hp
    obtain ⟨n, rfl, _⟩ := bd_fu hn
    rw [List.length_nil] at hk
    exact pk_le c k (fun _ => hp) (fun h => absurd h (by omega)) hN rfl
  | cons d y ih =>
    intro ids k v n hk hi hn h1 h2 h3 h4 hp
    obtain ⟨n, rfl, _⟩ := bd_fu hn
    cases ids with
    | nil => cases hi
    | cons i ids =>
      rw [List.length_cons] at hk hn
      rw [List.length_cons, List.length_cons] at hi
      have hi8 := h3 i (List.mem_cons_self ..)
      have hd := h4 d (List.mem_cons_self ..)
      have hin : vp_in (nI k) 8 := vp_in_nI (by omega) (by omega)
      have hp' : post (nI (v + ((if d = b then s i else 0) + bd_ld y (ids.map s) b))) := hp
      have step := fun v' => ih ids (k + 1) v' n (by omega) (by omega) (by omega) h1.2 h2.2 (fun e he => h3 e (List.mem_cons_of_mem _ he)) (fun e he => h4 e (List.mem_cons_of_mem _ he))
      refine pk_le c k (fun h => absurd h (by omega)) (fun _ => ⟨hin, ?_⟩) hN rfl
      rw [nI_clamp (show k < 2 ^ 31 by omega), h1.1, h2.1]
      refine pk_eq d b (fun e => ⟨hin, vp_in_nI hi8 (by omega), nm_r (e' := nI (v + s i)) (by rw [nI_clamp (by omega), hS i hi8, nI_add]) (nm_r (nI_1 k) (step (v + s i) ?_))⟩) (fun e => nm_r (nI_1 k) (step v ?_))
      · rw [if_pos e, ← Nat.add_assoc] at hp'; exact hp'
      · rw [if_neg e, Nat.zero_add] at hp'; exact hp'
theorem by_load {post : Int32 → Prop} {s : Nat → Nat} {b : Nat} {y : List Nat} (hY : bd_YS s yN bS bI) (hy : y.length = (bd_pr s 8).length) (hA : bd_Al bB 0 y) (hb : b < 1000) (hy2 : ∀ d, d ∈ y → d < 1000) (hp : post (nI (bd_ld y ((bd_pr s 8).map s) b))) : wpY_load post (yR, yN, bS, bI, bB) (nI b) := by
  obtain ⟨h1, h2, h3, h4⟩ := hY
  have hl := bd_pr_len s 8
  refine ⟨y.length + 1, by_load4 (s := s) h1 h3 hl hb y (bd_pr s 8) 0 0 (y.length + 1) (by omega) hy.symm (by omega) hA h4 (fun d hd => (bd_pr_mem hd).1) hy2 ?_⟩
  rw [Nat.zero_add]; exact hp
theorem by_ex18 {post : Int32 → Prop} {s : Nat → Nat} {g : Nat} {y : List Nat} (hY : bd_YS s yN bS bI) (hy : y.length = (bd_pr s 8).length) (hA : bd_Al bB 0 y) (hg : g ≤ 8) (hy2 : ∀ d, d ∈ y → d < 1000) (hld : ∀ b, bd_ld y ((bd_pr s 8).map s) b ≤ 480) {x : Int32} :
    (x = 1 → (∀ v, v ≤ 480 → (∀ b, b ≤ g → bd_ld y ((bd_pr s 8).map s) b ≤ v) → (∃ b, b ≤ g ∧ bd_ld y ((bd_pr s 8).map s) b = v) → post (nI v)) → ∀ (d b v n : Nat), b + d = g → d < n → v ≤ 480 → (∀ c, c ≤ b → bd_ld y ((bd_pr s 8).map s) c ≤ v) → (∃ c, c ≤ b ∧ bd_ld y ((bd_pr s 8).map s) c = v) → wY_extreme_18 post x (nI g) yR yN bS bI bB n (nI v) (nI (b + 1))) ∧
    (x = 0 → (∀ v, v ≤ 480 → (∀ b, b ≤ g → v ≤ bd_ld y ((bd_pr s 8).map s) b) → (∃ b, b ≤ g ∧ bd_ld y ((bd_pr s 8).map s) b = v) → post (nI v)) → ∀ (d b v n : Nat), b + d = g → d < n → v ≤ 480 → (∀ c, c ≤ b → v ≤ bd_ld y ((bd_pr s 8).map s) c) → (∃ c, c ≤ b ∧ bd_ld y ((bd_pr s 8).map s) c = v) → wY_extreme_18 post x (nI g) yR yN bS bI bB n (nI v) (nI (b + 1))) := by
  constructor
  · intro hx K d
    induction d with
    | zero =>
      intro b v n hb hn hv h1 h2
      obtain ⟨n, rfl, _⟩ := bd_fu hn
      have e : b = g := by omega
      subst e
      exact pk_lt b (b + 1) (fun _ => K v hv h1 h2) (fun h => absurd h (by omega))
    | succ d ih =>
      intro b v n hb hn hv h1 h2
      obtain ⟨n, rfl, _⟩ := bd_fu hn
      refine pk_lt g (b + 1) (fun h => absurd h (by omega)) (fun _ => by_load (b := b + 1) hY hy hA (by omega) hy2 ?_)
      have hv2 := hld (b + 1)
      refine br_f (by rw [hx]; decide) ?_
      refine pk_le (bd_ld y ((bd_pr s 8).map s) (b + 1)) v (fun z => nm_r (nI_1 _) (ih (b + 1) v n (by omega) (by omega) hv (fun c hc => ?_) ?_)) (fun z => nm_r (nI_1 _) (ih (b + 1) _ n (by omega) (by omega) hv2 (fun c hc => ?_) ⟨b + 1, Nat.le_refl _, rfl⟩))
      · rcases Nat.lt_or_ge c (b + 1) with q | q
        · exact h1 c (by omega)
        · have e : c = b + 1 := by omega
          rw [e]; exact z
      · obtain ⟨c, hc, e⟩ := h2
        exact ⟨c, by omega, e⟩
      · rcases Nat.lt_or_ge c (b + 1) with q | q
        · have := h1 c (by omega)
          omega
        · have e : c = b + 1 := by omega
          rw [e]; exact Nat.le_refl _
  · intro hx K d
    induction d with
    | zero =>
      intro b v n hb hn hv h1 h2
      obtain ⟨n, rfl, _⟩ := bd_fu hn
      have e : b = g := by omega
      subst e
      exact pk_lt b (b + 1) (fun _ => K v hv h1 h2) (fun h => absurd h (by omega))
    | succ d ih =>
      intro b v n hb hn hv h1 h2
      obtain ⟨n, rfl, _⟩ := bd_fu hn
      refine pk_lt g (b + 1) (fun h => absurd h (by omega)) (fun _ => by_load (b := b + 1) hY hy hA (by omega) hy2 ?_)
      have hv2 := hld (b + 1)
      refine br_t hx ?_
      refine pk_le v (bd_ld y ((bd_pr s 8).map s) (b + 1)) (fun z => nm_r (nI_1 _) (ih (b + 1) v n (by omega) (by omega) hv (fun c hc => ?_) ?_)) (fun z => nm_r (nI_1 _) (ih (b + 1) _ n (by omega) (by omega) hv2 (fun c hc => ?_) ⟨b + 1, Nat.le_refl _, rfl⟩))
      · rcases Nat.lt_or_ge c (b + 1) with q | q
        · exact h1 c (by omega)
        · have e : c = b + 1 := by omega
          rw [e]; exact z
      · obtain ⟨c, hc, e⟩ := h2
        exact ⟨c, by omega, e⟩
      · rcases Nat.lt_or_ge c (b + 1) with q | q
        · have := h1 c (by omega)
          omega
        · have e : c = b + 1 := by omega
          rw [e]; exact Nat.le_refl _
theorem bd_sum60 {s : Nat → Nat} (hs : ∀ j, s j ≤ 60) : ∀ (l : List Nat), (l.map s).sum ≤ l.length * 60
  | [] => Nat.le_refl _
  | i :: l => by
    have := bd_sum60 hs l
    have := hs i
    rw [List.map_cons, List.sum_cons, List.length_cons]; omega
theorem bd_ld480 {s : Nat → Nat} (hs : ∀ j, s j ≤ 60) (y : List Nat) (b : Nat) : bd_ld y ((bd_pr s 8).map s) b ≤ 480 := by
  have h1 := bd_ld_le y ((bd_pr s 8).map s) b
  have h2 := bd_sum60 hs (bd_pr s 8)
  have h3 := bd_pr_len s 8
  omega
/-- the fullest bin -/
theorem by_exM {post : Int32 → Prop} {s : Nat → Nat} {y : List Nat} (hY : bd_YS s yN bS bI) (hy : y ∈ bd_en 0 (bd_pr s 8).length) (hne : y ≠ []) (hA : bd_Al bB 0 y)
    (K : ∀ v, v ≤ 480 → (∀ b, b < bd_ct 0 y → bd_ld y ((bd_pr s 8).map s) b ≤ v) → (∃ b, b < bd_ct 0 y ∧ bd_ld y ((bd_pr s 8).map s) b = v) → post (nI v)) : wpY_extreme post (yR, yN, bS, bI, bB) 1 := by
  have hl := bd_pr_len s 8
  have hlen := bd_en_len _ _ hy
  have hct := bd_ct_en _ _ hy
  have hmem : ∀ d, d ∈ y → d < 8 := fun d hd => by have := bd_ct_mem y 0 hd; omega
  have hld := fun b => bd_ld480 hY.2.1 y b
  obtain ⟨g, hg⟩ : ∃ g, bd_ct 0 y = g + 1 := by
    cases y with
    | nil => exact absurd rfl hne
    | cons c t => have := bd_ct_mem (c :: t) 0 (List.mem_cons_self ..); exact ⟨bd_ct 0 (c :: t) - 1, by omega⟩
  unfold wpY_extreme
  refine by_load (b := 0) hY hlen hA (by omega) (fun d hd => by have := hmem d hd; omega) ?_
  have hN : yN = nI y.length := by rw [hY.2.2.1, hlen]
  rw [hN] at hY ⊢
  refine by_gr (by omega) hA (fun d hd => by have := hmem d hd; omega) ?_
  rw [hg, pk_m1]
  refine ⟨g + 1, (by_ex18 (x := 1) (g := g) hY hlen hA (by omega) (fun d hd => by have := hmem d hd; omega) hld).1 rfl (fun v h1 h2 h3 => K v h1 (fun b hb => h2 b (by omega)) ?_) g 0 _ (g + 1) (by omega) (by omega) (hld 0) (fun c hc => ?_) ⟨0, Nat.le_refl 0, rfl⟩⟩
  · obtain ⟨b, hb, e⟩ := h3
    exact ⟨b, by omega, e⟩
  · have e : c = 0 := by omega
    rw [e]; exact Nat.le_refl _
/-- the emptiest bin -/
theorem by_exm {post : Int32 → Prop} {s : Nat → Nat} {y : List Nat} (hY : bd_YS s yN bS bI) (hy : y ∈ bd_en 0 (bd_pr s 8).length) (hne : y ≠ []) (hA : bd_Al bB 0 y)
    (K : ∀ v, v ≤ 480 → (∀ b, b < bd_ct 0 y → v ≤ bd_ld y ((bd_pr s 8).map s) b) → (∃ b, b < bd_ct 0 y ∧ bd_ld y ((bd_pr s 8).map s) b = v) → post (nI v)) : wpY_extreme post (yR, yN, bS, bI, bB) 0 := by
  have hl := bd_pr_len s 8
  have hlen := bd_en_len _ _ hy
  have hct := bd_ct_en _ _ hy
  have hmem : ∀ d, d ∈ y → d < 8 := fun d hd => by have := bd_ct_mem y 0 hd; omega
  have hld := fun b => bd_ld480 hY.2.1 y b
  obtain ⟨g, hg⟩ : ∃ g, bd_ct 0 y = g + 1 := by
    cases y with
    | nil => exact absurd rfl hne
    | cons c t => have := bd_ct_mem (c :: t) 0 (List.mem_cons_self ..); exact ⟨bd_ct 0 (c :: t) - 1, by omega⟩
  unfold wpY_extreme
  refine by_load (b := 0) hY hlen hA (by omega) (fun d hd => by have := hmem d hd; omega) ?_
  have hN : yN = nI y.length := by rw [hY.2.2.1, hlen]
  rw [hN] at hY ⊢
  refine by_gr (by omega) hA (fun d hd => by have := hmem d hd; omega) ?_
  rw [hg, pk_m1]
  refine ⟨g + 1, (by_ex18 (x := 0) (g := g) hY hlen hA (by omega) (fun d hd => by have := hmem d hd; omega) hld).2 rfl (fun v h1 h2 h3 => K v h1 (fun b hb => h2 b (by omega)) ?_) g 0 _ (g + 1) (by omega) (by omega) (hld 0) (fun c hc => ?_) ⟨0, Nat.le_refl 0, rfl⟩⟩
  · obtain ⟨b, hb, e⟩ := h3
    exact ⟨b, by omega, e⟩
  · have e : c = 0 := by omega
    rw [e]; exact Nat.le_refl _
end
end
section
/-! ===== Y: the loops over all neat packings ===== -/
def bd_va (R : Nat) (s : Nat → Nat) (y : List Nat) : Prop := ∀ b, b < bd_ct 0 y → bd_ld y ((bd_pr s 8).map s) b ≤ R
section
variable {yR yN : Int32} {bS bI bB : Nat → Int32}
theorem by_ne {s : Nat → Nat} {y : List Nat} (hN : 0 < (bd_pr s 8).length) (hy : y ∈ bd_en 0 (bd_pr s 8).length) : y ≠ [] := fun e => by
  have := bd_en_len _ _ hy
  rw [e, List.length_nil] at this; omega
theorem by_m8 {s : Nat → Nat} {y : List Nat} (hy : y ∈ bd_en 0 (bd_pr s 8).length) : ∀ d, d ∈ y → d < 8 := fun d hd => by
  have h1 := bd_ct_mem y 0 hd
  have h2 := bd_ct_en _ _ hy
  have h3 := bd_pr_len s 8
  omega
theorem by_c8 {s : Nat → Nat} {y : List Nat} (hy : y ∈ bd_en 0 (bd_pr s 8).length) : bd_ct 0 y ≤ 8 := by
  have h2 := bd_ct_en _ _ hy
  have h3 := bd_pr_len s 8
  omega
theorem by_nxt {P : Int32 → SY → Prop} {s : Nat → Nat} {y : List Nat} {l : List (List Nat)} (hY : bd_YS s yN bS bI) (hN : 0 < (bd_pr s 8).length) (hy : y ∈ bd_en 0 (bd_pr s 8).length) (hA : bd_Al bB 0 y) (hC : bd_Ch (bd_nx 0) (y :: l) none)
    (K0 : l = [] → P 0 (yR, yN, bS, bI, bB)) (K1 : ∀ y' l' b, l = y' :: l' → bd_Al b 0 y' → bd_Ch (bd_nx 0) (y' :: l') none → P 1 (yR, yN, bS, bI, b)) : wpY_next P (yR, yN, bS, bI, bB) := by
  have hlen := bd_en_len _ _ hy
  have h8 := bd_pr_len s 8
  refine by_nx (y := y) (by rw [hY.2.2.1, hlen]) (by_ne hN hy) (by omega) hA (fun d hd => by have := by_m8 hy d hd; omega) (fun h => ?_) (fun y' b h hA' => ?_)
  · cases l with
    | nil => exact K0 rfl
    | cons z l =>
      have h2 : bd_nx 0 y = some z := hC.1
      rw [h] at h2; cases h2
  · cases l with
    | nil =>
      have h2 : bd_nx 0 y = none := hC
      rw [h] at h2; cases h2
    | cons z l =>
      have h2 : bd_nx 0 y = some z := hC.1
      rw [h] at h2
      injection h2 with h2
      subst h2
      exact K1 _ _ b rfl hA' hC.2
theorem by_gt {P : Int32 → Prop} {s : Nat → Nat} {y : List Nat} (hY : bd_YS s yN bS bI) (hy : y ∈ bd_en 0 (bd_pr s 8).length) (hA : bd_Al bB 0 y) (h : P (nI (bd_ct 0 y) + (-1))) : wpY_greatest P (yR, yN, bS, bI, bB) yN := by
  have hlen := bd_en_len _ _ hy
  have h8 := bd_pr_len s 8
  have hN : yN = nI y.length := by rw [hY.2.2.1, hlen]
  rw [hN]
  exact by_gr (by omega) hA (fun d hd => by have := by_m8 hy d hd; omega) h
theorem by_le33 {post : Int32 → SY → Prop} {s : Nat → Nat} {R : Nat} (hR : yR = nI R) (hR2 : R ≤ 480) (hY : bd_YS s yN bS bI) (hN : 0 < (bd_pr s 8).length) :
    ∀ (n : Nat) (l : List (List Nat)) (y : List Nat) (c v : Nat) (b : Nat → Int32), bd_Ch (bd_nx 0) (y :: l) none → (∀ z, z ∈ y :: l → z ∈ bd_en 0 (bd_pr s 8).length) → c + (l.length + 1) ≤ 4140 → l.length + 1 < n → bd_Al b 0 y → v ≤ 9 →
      (∀ m b', m ≤ v → (m < v → ∃ z, z ∈ y :: l ∧ bd_va R s z ∧ bd_ct 0 z = m) → (∀ z, z ∈ y :: l → bd_va R s z → m ≤ bd_ct 0 z) → post (nI m) (yR, yN, bS, bI, b')) → wY_least_33 post n (nI v) 1 (nI c) yR yN bS bI b := by
  intro n
  induction n with
  | zero => intro l y c v b _ _ _ h; omega
  | succ n ih =>
    intro l y c v b hC hen hc hn hA hv K
    have hy := hen y (List.mem_cons_self ..)
    have hct := by_c8 hy
    have go : ∀ v', v' ≤ v → (v' < v → bd_va R s y ∧ bd_ct 0 y = v') → (bd_va R s y → v' ≤ bd_ct 0 y) → wY_least_77 post (wY_least_33 post n) (nI v') (nI c) yR yN bS bI b := by
      intro v' h1 h2 h3
      refine by_nxt hY hN hy hA hC (fun el => ?_) (fun y' l' b' el hA' hC' => ?_)
      · subst el
        obtain ⟨n, rfl, _⟩ := bd_fu (show 0 < n by simp at hn; omega)
        have k := K v' b h1 (fun z => ⟨y, List.mem_cons_self .., h2 z⟩) (fun z hz hv => by
          rw [List.mem_singleton.mp hz] at hv ⊢; exact h3 hv)
        exact nm_r (nI_1 c) (pk_le 4140 (c + 1) (fun _ => k) (fun _ => br_t rfl k))
      · subst el
        rw [List.length_cons] at hc hn
        refine nm_r (nI_1 c) (ih l' y' (c + 1) v' b' hC' (fun z hz => hen z (List.mem_cons_of_mem _ hz)) (by omega) (by omega) hA' (by omega) (fun m b'' k1 k2 k3 => K m b'' (by omega) (fun hlt => ?_) (fun z hz hvz => ?_)))
        · rcases Nat.lt_or_ge m v' with q | q
          · obtain ⟨z, hz, e⟩ := k2 q
            exact ⟨z, List.mem_cons_of_mem _ hz, e⟩
          · have e : m = v' := by omega
            subst e
            exact ⟨y, List.mem_cons_self .., h2 hlt⟩
        · rcases List.mem_cons.mp hz with e | e
          · subst e
            exact Nat.le_trans k1 (h3 hvz)
          · exact k3 z e hvz
    refine pk_le 4140 c (fun h => absurd h (by omega)) (fun _ => br_f (by decide) (by_gt hY hy hA (nm_r (bd_g1 _) ?_)))
    refine pk_le v (bd_ct 0 y) (fun h => go v (Nat.le_refl v) (fun z => absurd z (Nat.lt_irrefl v)) (fun _ => h)) (fun h => ?_)
    refine by_exM hY hy (by_ne hN hy) hA (fun e he h1 h2 => ?_)
    refine pk_lt R e (fun hlt => go v (Nat.le_refl v) (fun z => absurd z (Nat.lt_irrefl v)) (fun hva => ?_)) (fun hge => go _ (by omega) (fun _ => ⟨fun b hb => Nat.le_trans (h1 b hb) hge, rfl⟩) (fun _ => Nat.le_refl _)) hR rfl
    obtain ⟨b, hb, e2⟩ := h2
    have := hva b hb
    omega
/-- what the reference's least answers -/
def bd_Lst (R : Nat) (s : Nat → Nat) (m : Nat) : Prop := m ≤ 9 ∧ ((bd_pr s 8).length = 0 → m = 0) ∧ (0 < (bd_pr s 8).length → (m < 9 → ∃ z, z ∈ bd_en 0 (bd_pr s 8).length ∧ bd_va R s z ∧ bd_ct 0 z = m) ∧ ∀ z, z ∈ bd_en 0 (bd_pr s 8).length → bd_va R s z → m ≤ bd_ct 0 z)
theorem by_Al0 {b : Nat → Int32} : ∀ (r k : Nat), (∀ j, k ≤ j → j < k + r → b j = nI 0) → bd_Al b k (List.replicate r 0)
  | 0, _, _ => trivial
  | r + 1, k, h => ⟨h k (Nat.le_refl k) (by omega), by_Al0 r (k + 1) (fun j h1 h2 => h j (by omega) (by omega))⟩
theorem by_least {post : Int32 → SY → Prop} {s : Nat → Nat} {R : Nat} (hR : yR = nI R) (hR2 : R ≤ 480) (hS : ∀ j, j < 8 → bS j = nI (s j)) (hs : ∀ j, s j ≤ 60)
    (K : ∀ m a b, bd_Lst R s m → bd_Al a 0 (bd_pr s 8) → post (nI m) (yR, nI (bd_pr s 8).length, bS, a, b)) : wpY_least post (yR, yN, bS, bI, bB) := by
  have h8 := bd_pr_len s 8
  unfold wpY_least
  refine by_first hS hs (fun a b h1 h2 => ?_)
  refine pk_eq (bd_pr s 8).length 0 (fun e => ?_) (fun e => ?_)
  · have k := K 0 a b ⟨by omega, fun _ => rfl, fun z => absurd z (by omega)⟩ h1
    exact pk_le (bd_pr s 8).length 0 (fun _ => ⟨1, pk_le 4140 0 (fun _ => k) (fun _ => br_t rfl k)⟩) (fun h => absurd h (by omega))
  · refine pk_le (bd_pr s 8).length 0 (fun h => absurd h (by omega)) (fun hN => ?_)
    obtain ⟨l, hl⟩ := bd_en_hd (bd_pr s 8).length 0
    have hlen := bd_en8 h8
    have hC := bd_Ch_en (bd_pr s 8).length 0
    rw [hl] at hlen hC
    rw [List.length_cons] at hlen
    refine ⟨4142, by_le33 hR hR2 ⟨hS, hs, rfl, h1⟩ hN 4142 l (List.replicate (bd_pr s 8).length 0) 0 9 b hC (fun z hz => by rw [hl]; exact hz) (by omega) (by omega) (by_Al0 _ 0 (fun j _ hj => h2 j (by omega))) (by omega) (fun m b' k1 k2 k3 => K m a b' ⟨k1, fun z => absurd z (by omega), fun _ => ⟨fun z => ?_, fun z hz => ?_⟩⟩ h1)⟩
    · rw [hl]; exact k2 z
    · rw [hl] at hz; exact k3 z hz
theorem by_rank4 {post : Int32 → Prop} {s : Nat → Nat} (hS : ∀ j, j < 8 → bS j = nI (s j)) (hs : ∀ j, s j ≤ 60) {i : Nat} (hi : i < 8) (hp : post (nI (bd_pr s i).length)) : ∀ (d j n : Nat), j + d = i → d < n → wY_rank_4 post (nI i) yR yN bS bI bB n (nI (bd_pr s j).length) (nI j) := by
  intro d
  induction d with
  | zero =>
    intro j n hj hn
    obtain ⟨n, rfl, _⟩ := bd_fu hn
    have e : j = i := by omega
    subst e
    have hl := bd_pr_len s j
    refine pk_le j j (fun _ => ?_) (fun h => absurd h (by omega))
    rw [pk_andN (by omega) (m := 7) 3 (by decide), Nat.mod_eq_of_lt (by omega)]
    exact hp
  | succ d ih =>
    intro j n hj hn
    obtain ⟨n, rfl, _⟩ := bd_fu hn
    refine pk_le i j (fun h => absurd h (by omega)) (fun _ => pk_le 8 j (fun h => absurd h (by omega)) (fun _ => ?_))
    have step := ih (j + 1) n (by omega) (by omega)
    refine by_is hS hs (by omega) (fun h => ?_) (fun h => ?_)
    · have e : bd_pr s (j + 1) = bd_pr s j ++ [j] := if_neg (by omega)
      rw [e, List.length_append, List.length_singleton] at step
      exact br_f (by decide) (nm_r (nI_1 _) (nm_r (nI_1 _) step))
    · have e : bd_pr s (j + 1) = bd_pr s j := if_pos h
      rw [e] at step
      exact br_t rfl (nm_r (e' := nI (bd_pr s j).length) (Int32.add_zero _) (nm_r (nI_1 _) step))
theorem by_rank {post : Int32 → Prop} {s : Nat → Nat} (hS : ∀ j, j < 8 → bS j = nI (s j)) (hs : ∀ j, s j ≤ 60) {i : Nat} (hi : i < 8) (hp : post (nI (bd_pr s i).length)) : wpY_rank post (yR, yN, bS, bI, bB) (nI i) :=
  ⟨i + 1, by_rank4 hS hs hi hp i 0 (i + 1) (by omega) (by omega)⟩
theorem bd_pr_app (s : Nat → Nat) {i : Nat} : ∀ k, i ≤ k → ∃ q, bd_pr s k = bd_pr s i ++ q ∧ (i < k → 0 < s i → ∃ q', q = i :: q')
  | 0, h => by
    have e : i = 0 := by omega
    subst e
    exact ⟨[], rfl, fun z => absurd z (by omega)⟩
  | k + 1, h => by
    rcases Nat.lt_or_ge k i with z | z
    · have e : i = k + 1 := by omega
      subst e
      exact ⟨[], (List.append_nil _).symm, fun z => absurd z (by omega)⟩
    · obtain ⟨q, e, hq⟩ := bd_pr_app s k z
      by_cases hk : s k = 0
      · have e2 : bd_pr s (k + 1) = bd_pr s k := if_pos hk
        refine ⟨q, by rw [e2, e], fun _ hs => ?_⟩
        rcases Nat.lt_or_ge i k with y | y
        · exact hq y hs
        · have e3 : i = k := by omega
          rw [e3] at hs; omega
      · have e2 : bd_pr s (k + 1) = bd_pr s k ++ [k] := if_neg hk
        refine ⟨q ++ [k], by rw [e2, e, List.append_assoc], fun _ hs => ?_⟩
        rcases Nat.lt_or_ge i k with y | y
        · obtain ⟨q', e4⟩ := hq y hs
          exact ⟨q' ++ [k], by rw [e4]; rfl⟩
        · have e3 : i = k := by omega
          subst e3
          have e5 : q = [] := by
            have := congrArg List.length e
            rw [List.length_append] at this
            exact List.eq_nil_of_length_eq_zero (by omega)
          exact ⟨[], by rw [e5]; rfl⟩
theorem bd_rk_lt {s : Nat → Nat} {i : Nat} (hi : i < 8) (hs : 0 < s i) : (bd_pr s i).length < (bd_pr s 8).length := by
  obtain ⟨q, e, hq⟩ := bd_pr_app s 8 (by omega : i ≤ 8)
  obtain ⟨q', e'⟩ := hq hi hs
  rw [e, List.length_append, e', List.length_cons]; omega
theorem bd_rk_get {s : Nat → Nat} {i : Nat} (hi : i < 8) (hs : 0 < s i) (F : Nat → Nat) : ((bd_pr s 8).map F).getD (bd_pr s i).length 0 = F i := by
  obtain ⟨q, e, hq⟩ := bd_pr_app s 8 (by omega : i ≤ 8)
  obtain ⟨q', e'⟩ := hq hi hs
  rw [e, e', List.map_append, List.map_cons]
  simp
/-- y0 is the first of l that V holds of -/
def bd_Fst (V : List Nat → Prop) (l : List (List Nat)) (y0 : List Nat) : Prop := ∃ l1 l2, l = l1 ++ y0 :: l2 ∧ (∀ z, z ∈ l1 → ¬ V z) ∧ V y0
theorem by_bo18 {post : Int32 → SY → Prop} {s : Nat → Nat} {R m i : Nat} {y0 : List Nat} (hR : yR = nI R) (hR2 : R ≤ 480) (hm : m ≤ 9) (hY : bd_YS s yN bS bI) (hN : 0 < (bd_pr s 8).length) (hi : i < 8) (hsi : 0 < s i)
    (K : ∀ b, post (nI (y0.getD (bd_pr s i).length 0)) (yR, yN, bS, bI, b)) :
    ∀ (n : Nat) (l : List (List Nat)) (y : List Nat) (c : Nat) (b : Nat → Int32), bd_Ch (bd_nx 0) (y :: l) none → (∀ z, z ∈ y :: l → z ∈ bd_en 0 (bd_pr s 8).length) → c + (l.length + 1) ≤ 4140 → l.length + 1 < n → bd_Al b 0 y → bd_Fst (fun z => bd_ct 0 z = m ∧ bd_va R s z) (y :: l) y0 →
      wY_binOf_18 post (nI i) (nI m) n 1 (nI c) yR yN bS bI b := by
  intro n
  induction n with
  | zero => intro l y c b _ _ _ h; omega
  | succ n ih =>
    intro l y c b hC hen hc hn hA hF
    have hy := hen y (List.mem_cons_self ..)
    have hct := by_c8 hy
    obtain ⟨l1, l2, e, hn1, hv⟩ := hF
    have go : ¬ (bd_ct 0 y = m ∧ bd_va R s y) → wY_binOf_67 post (wY_binOf_18 post (nI i) (nI m) n) (nI i) (nI m) (nI c) yR yN bS bI b := by
      intro hnv
      cases l1 with
      | nil =>
        injection e with e1 e2
        rw [e1] at hnv; exact absurd hv hnv
      | cons z l1 =>
        rw [List.cons_append] at e
        injection e with e1 e2
        refine by_nxt hY hN hy hA hC (fun el => ?_) (fun y' l' b' el hA' hC' => ?_)
        · rw [el] at e2
          have := congrArg List.length e2
          rw [List.length_append, List.length_cons, List.length_nil] at this; omega
        · subst el
          rw [List.length_cons] at hc hn
          exact nm_r (nI_1 c) (ih l' y' (c + 1) b' hC' (fun z hz => hen z (List.mem_cons_of_mem _ hz)) (by omega) (by omega) hA' ⟨l1, l2, e2, fun z hz => hn1 z (List.mem_cons_of_mem _ hz), hv⟩)
    refine pk_le 4140 c (fun h => absurd h (by omega)) (fun _ => br_f (by decide) (by_gt hY hy hA ?_))
    rw [bd_g1]
    refine pk_eq (bd_ct 0 y) m (fun hm1 => ?_) (fun hm1 => go (fun h => hm1 h.1))
    refine by_exM hY hy (by_ne hN hy) hA (fun v hv1 h1 h2 => ?_)
    refine pk_lt R v (fun hlt => go (fun h => ?_)) (fun hge => ?_) hR rfl
    · obtain ⟨b, hb, e2⟩ := h2
      have := h.2 b hb
      omega
    · have hva : bd_va R s y := fun b hb => Nat.le_trans (h1 b hb) hge
      have hrk := bd_rk_lt hi hsi
      have h8 := bd_pr_len s 8
      have hlen := bd_en_len _ _ hy
      refine by_rank hY.1 hY.2.1 hi ⟨vp_in_nI (by omega) (by omega), ?_⟩
      rw [nI_clamp (by omega)]
      have hg := bd_Al_get y 0 (bd_pr s i).length (by omega) hA
      rw [Nat.zero_add] at hg
      rw [hg]
      cases l1 with
      | nil =>
        injection e with e1 e2
        rw [e1]; exact K b
      | cons z l1 =>
        rw [List.cons_append] at e
        injection e with e1 e2
        exact absurd (show bd_ct 0 y = m ∧ bd_va R s y from ⟨hm1, hva⟩) (by rw [e1]; exact hn1 z (List.mem_cons_self ..))
end
end
section
/-! ===== Y: spare, sizeFor, together ===== -/
section
variable {yR yN : Int32} {bS bI bB : Nat → Int32}
theorem by_sp27 {post : Int32 → SY → Prop} {s : Nat → Nat} {R m : Nat} (hR : yR = nI R) (hR2 : R ≤ 480) (hm : m ≤ 9) (hY : bd_YS s yN bS bI) (hN : 0 < (bd_pr s 8).length) :
    ∀ (n : Nat) (l : List (List Nat)) (y : List Nat) (c v : Nat) (b : Nat → Int32), bd_Ch (bd_nx 0) (y :: l) none → (∀ z, z ∈ y :: l → z ∈ bd_en 0 (bd_pr s 8).length) → c + (l.length + 1) ≤ 4140 → l.length + 1 < n → bd_Al b 0 y → v ≤ R →
      (∀ v' b', v ≤ v' → v' ≤ R → (v < v' → ∃ z, z ∈ y :: l ∧ bd_ct 0 z = m ∧ bd_va R s z ∧ ∃ d, d < m ∧ bd_ld z ((bd_pr s 8).map s) d + v' ≤ R) → (∀ z, z ∈ y :: l → bd_ct 0 z = m → bd_va R s z → ∀ d, d < m → R ≤ bd_ld z ((bd_pr s 8).map s) d + v') → post (nI v') (yR, yN, bS, bI, b')) →
      wY_spare_27 post (nI m) n (nI v) 1 (nI c) yR yN bS bI b := by
  intro n
  induction n with
  | zero => intro l y c v b _ _ _ h; omega
  | succ n ih =>
    intro l y c v b hC hen hc hn hA hv K
    have hy := hen y (List.mem_cons_self ..)
    have hct := by_c8 hy
    have go : ∀ v', v ≤ v' → v' ≤ R → (v < v' → bd_ct 0 y = m ∧ bd_va R s y ∧ ∃ d, d < m ∧ bd_ld y ((bd_pr s 8).map s) d + v' ≤ R) → (bd_ct 0 y = m → bd_va R s y → ∀ d, d < m → R ≤ bd_ld y ((bd_pr s 8).map s) d + v') → wY_spare_90 post (wY_spare_27 post (nI m) n) (nI m) (nI v') (nI c) yR yN bS bI b := by
      intro v' h1 h1' h2 h3
      refine by_nxt hY hN hy hA hC (fun el => ?_) (fun y' l' b' el hA' hC' => ?_)
      · subst el
        obtain ⟨n, rfl, _⟩ := bd_fu (show 0 < n by simp at hn; omega)
        have k := K v' b h1 h1' (fun z => ⟨y, List.mem_cons_self .., h2 z⟩) (fun z hz => by
          rw [List.mem_singleton.mp hz]; exact h3)
        exact nm_r (nI_1 c) (pk_le 4140 (c + 1) (fun _ => k) (fun _ => br_t rfl k))
      · subst el
        rw [List.length_cons] at hc hn
        refine nm_r (nI_1 c) (ih l' y' (c + 1) v' b' hC' (fun z hz => hen z (List.mem_cons_of_mem _ hz)) (by omega) (by omega) hA' h1' (fun w b'' k1 k1' k2 k3 => K w b'' (by omega) k1' (fun hlt => ?_) (fun z hz hz1 hz2 d hd => ?_)))
        · rcases Nat.lt_or_ge v' w with q | q
          · obtain ⟨z, hz, e⟩ := k2 q
            exact ⟨z, List.mem_cons_of_mem _ hz, e⟩
          · have e : w = v' := by omega
            subst e
            exact ⟨y, List.mem_cons_self .., h2 hlt⟩
        · rcases List.mem_cons.mp hz with e | e
          · subst e
            have := h3 hz1 hz2 d hd
            omega
          · exact k3 z e hz1 hz2 d hd
    refine pk_le 4140 c (fun h => absurd h (by omega)) (fun _ => br_f (by decide) (by_gt hY hy hA ?_))
    rw [bd_g1]
    refine pk_eq (bd_ct 0 y) m (fun hm1 => ?_) (fun hm1 => go v (Nat.le_refl v) hv (fun z => absurd z (Nat.lt_irrefl v)) (fun h => absurd h hm1))
    refine by_exM hY hy (by_ne hN hy) hA (fun e he h1 h2 => ?_)
    refine pk_lt R e (fun hlt => go v (Nat.le_refl v) hv (fun z => absurd z (Nat.lt_irrefl v)) (fun _ hva => ?_)) (fun hge => ?_) hR rfl
    · obtain ⟨b, hb, e2⟩ := h2
      have := hva b hb
      omega
    · have hva : bd_va R s y := fun b hb => Nat.le_trans (h1 b hb) hge
      refine by_exm hY hy (by_ne hN hy) hA (fun f hf g1 g2 => ?_)
      have hfR : f ≤ R := by
        obtain ⟨b, hb, e2⟩ := g2
        have := hva b hb
        omega
      refine nm_r (e' := nI (R - f)) (by rw [hR, pk_sub hfR]) ?_
      rw [hm1] at g1 g2
      refine pk_le (R - f) v (fun hle => go v (Nat.le_refl v) hv (fun z => absurd z (Nat.lt_irrefl v)) (fun _ _ d hd => ?_)) (fun hgt => go (R - f) (by omega) (by omega) (fun _ => ⟨hm1, hva, ?_⟩) (fun _ _ d hd => ?_))
      · have := g1 d hd
        omega
      · obtain ⟨b, hb, e2⟩ := g2
        exact ⟨b, hb, by omega⟩
      · have := g1 d hd
        omega
def bd_eo : Option Nat → Int32
  | none => -1
  | some v => nI v
theorem by_sf33 {post : Int32 → SY → Prop} {s : Nat → Nat} {q : Nat} (hq : q ≤ 8) (hY : bd_YS s yN bS bI) (hN : 0 < (bd_pr s 8).length) :
    ∀ (n : Nat) (l : List (List Nat)) (y : List Nat) (c : Nat) (v : Option Nat) (b : Nat → Int32), bd_Ch (bd_nx 0) (y :: l) none → (∀ z, z ∈ y :: l → z ∈ bd_en 0 (bd_pr s 8).length) → c + (l.length + 1) ≤ 4140 → l.length + 1 < n → bd_Al b 0 y → (∀ w, v = some w → w ≤ 480) →
      (∀ v' b', (∀ w, v' = some w → v = some w ∨ ∃ z, z ∈ y :: l ∧ bd_ct 0 z ≤ q ∧ bd_va w s z) → (∀ z, z ∈ y :: l → bd_ct 0 z ≤ q → ∀ R, bd_va R s z → ∃ w, v' = some w ∧ w ≤ R) → (∀ w, v = some w → ∃ w', v' = some w' ∧ w' ≤ w) → post (bd_eo v') (yR, yN, bS, bI, b')) →
      wY_sizeFor_33 post (nI q) n (bd_eo v) 1 (nI c) yR yN bS bI b := by
  intro n
  induction n with
  | zero => intro l y c v b _ _ _ h; omega
  | succ n ih =>
    intro l y c v b hC hen hc hn hA hv K
    have hy := hen y (List.mem_cons_self ..)
    have hct := by_c8 hy
    have go : ∀ v', (∀ w, v' = some w → w ≤ 480) → (∀ w, v' = some w → v = some w ∨ (bd_ct 0 y ≤ q ∧ bd_va w s y)) → (bd_ct 0 y ≤ q → ∀ R, bd_va R s y → ∃ w, v' = some w ∧ w ≤ R) → (∀ w, v = some w → ∃ w', v' = some w' ∧ w' ≤ w) → wY_sizeFor_83 post (wY_sizeFor_33 post (nI q) n) (nI q) (bd_eo v') (nI c) yR yN bS bI b := by
      intro v' h0 h1 h2 h3
      refine by_nxt hY hN hy hA hC (fun el => ?_) (fun y' l' b' el hA' hC' => ?_)
      · subst el
        obtain ⟨n, rfl, _⟩ := bd_fu (show 0 < n by simp at hn; omega)
        have k := K v' b (fun w e => (h1 w e).elim Or.inl (fun z => Or.inr ⟨y, List.mem_cons_self .., z⟩)) (fun z hz => by
          rw [List.mem_singleton.mp hz]; exact h2) h3
        exact nm_r (nI_1 c) (pk_le 4140 (c + 1) (fun _ => k) (fun _ => br_t rfl k))
      · subst el
        rw [List.length_cons] at hc hn
        refine nm_r (nI_1 c) (ih l' y' (c + 1) v' b' hC' (fun z hz => hen z (List.mem_cons_of_mem _ hz)) (by omega) (by omega) hA' h0 (fun w b'' k1 k2 k3 => K w b'' (fun u e => ?_) (fun z hz hz1 R hz2 => ?_) (fun u e => ?_)))
        · rcases k1 u e with q1 | ⟨z, hz, q2⟩
          · exact (h1 u q1).elim Or.inl (fun z => Or.inr ⟨y, List.mem_cons_self .., z⟩)
          · exact Or.inr ⟨z, List.mem_cons_of_mem _ hz, q2⟩
        · rcases List.mem_cons.mp hz with e | e
          · subst e
            obtain ⟨u, e1, e2⟩ := h2 hz1 R hz2
            obtain ⟨u', e3, e4⟩ := k3 u e1
            exact ⟨u', e3, by omega⟩
          · exact k2 z e hz1 R hz2
        · obtain ⟨u1, e1, e2⟩ := h3 u e
          obtain ⟨u2, e3, e4⟩ := k3 u1 e1
          exact ⟨u2, e3, by omega⟩
    refine pk_le 4140 c (fun h => absurd h (by omega)) (fun _ => br_f (by decide) (by_gt hY hy hA ?_))
    rw [bd_g1]
    refine pk_lt q (bd_ct 0 y) (fun h => go v hv (fun w e => Or.inl e) (fun h2 => absurd h2 (by omega)) (fun w e => ⟨w, e, Nat.le_refl w⟩)) (fun h => ?_)
    refine by_exM hY hy (by_ne hN hy) hA (fun e he h1 h2 => ?_)
    have hmx : ∀ R, bd_va R s y → e ≤ R := fun R hva => by
      obtain ⟨b, hb, e2⟩ := h2
      have := hva b hb
      omega
    have new : (∀ w, v = some w → e ≤ w) → wY_sizeFor_83 post (wY_sizeFor_33 post (nI q) n) (nI q) (bd_eo (some e)) (nI c) yR yN bS bI b := fun hle =>
      go (some e) (fun w z => by injection z with z; omega) (fun w z => Or.inr ⟨h, by injection z with z; rw [← z]; exact h1⟩) (fun _ R hR => ⟨e, rfl, hmx R hR⟩) (fun w z => ⟨e, rfl, hle w z⟩)
    cases v with
    | none => exact br_t (by decide) (new (fun w z => by cases z))
    | some v =>
      have hv9 := hv v rfl
      refine br_f (nI_pos (by omega)) (pk_le v e (fun hle => ?_) (fun hgt => new (fun w z => by injection z with z; omega)))
      exact go (some v) hv (fun w z => Or.inl z) (fun _ R hR => ⟨v, rfl, Nat.le_trans hle (hmx R hR)⟩) (fun w z => ⟨w, z, Nat.le_refl w⟩)
def bd_eb : Bool → Int32
  | false => 0
  | true => 1
theorem by_eb (f : Bool) : narrow .boolean (.int (bd_eb f)) = .int (bd_eb f) := by cases f <;> rfl
theorem by_to43 {post : Int32 → SY → Prop} {s : Nat → Nat} {R m i j : Nat} (hR : yR = nI R) (hR2 : R ≤ 480) (hm : m ≤ 9) (hY : bd_YS s yN bS bI) (hN : 0 < (bd_pr s 8).length) (hi : i < 8) (hsi : 0 < s i) (hj : j < 8) (hsj : 0 < s j) :
    ∀ (n : Nat) (l : List (List Nat)) (y : List Nat) (c : Nat) (f : Bool) (b : Nat → Int32), bd_Ch (bd_nx 0) (y :: l) none → (∀ z, z ∈ y :: l → z ∈ bd_en 0 (bd_pr s 8).length) → c + (l.length + 1) ≤ 4140 → l.length + 1 < n → bd_Al b 0 y →
      (∀ f' b', (f' = true ↔ f = true ∨ ∃ z, z ∈ y :: l ∧ bd_ct 0 z = m ∧ bd_va R s z ∧ z.getD (bd_pr s i).length 0 = z.getD (bd_pr s j).length 0) → post (bd_eb f') (yR, yN, bS, bI, b')) →
      wY_together_43 post (nI i) (nI j) (nI m) n (bd_eb f) 1 (nI c) yR yN bS bI b := by
  intro n
  induction n with
  | zero => intro l y c f b _ _ _ h; omega
  | succ n ih =>
    intro l y c f b hC hen hc hn hA K
    have hy := hen y (List.mem_cons_self ..)
    have hct := by_c8 hy
    have go : ∀ f', (f' = true ↔ f = true ∨ (bd_ct 0 y = m ∧ bd_va R s y ∧ y.getD (bd_pr s i).length 0 = y.getD (bd_pr s j).length 0)) → wY_together_117 post (wY_together_43 post (nI i) (nI j) (nI m) n) (nI i) (nI j) (nI m) (bd_eb f') (nI c) yR yN bS bI b := by
      intro f' h1
      refine by_nxt hY hN hy hA hC (fun el => ?_) (fun y' l' b' el hA' hC' => ?_)
      · subst el
        obtain ⟨n, rfl, _⟩ := bd_fu (show 0 < n by simp at hn; omega)
        have k := K f' b (h1.trans ⟨fun z => z.elim Or.inl (fun q => Or.inr ⟨y, List.mem_cons_self .., q⟩), fun z => z.elim Or.inl (fun ⟨z, hz, q⟩ => Or.inr (by rw [List.mem_singleton.mp hz] at q; exact q))⟩)
        exact nm_r (nI_1 c) (pk_le 4140 (c + 1) (fun _ => ⟨by_eb f', k⟩) (fun _ => br_t rfl ⟨by_eb f', k⟩))
      · subst el
        rw [List.length_cons] at hc hn
        refine nm_r (nI_1 c) (ih l' y' (c + 1) f' b' hC' (fun z hz => hen z (List.mem_cons_of_mem _ hz)) (by omega) (by omega) hA' (fun f'' b'' k1 => K f'' b'' (k1.trans ⟨fun z => ?_, fun z => ?_⟩)))
        · rcases z with z | ⟨z, hz, q⟩
          · exact (h1.mp z).elim Or.inl (fun q => Or.inr ⟨y, List.mem_cons_self .., q⟩)
          · exact Or.inr ⟨z, List.mem_cons_of_mem _ hz, q⟩
        · rcases z with z | ⟨z, hz, q⟩
          · exact Or.inl (h1.mpr (Or.inl z))
          · rcases List.mem_cons.mp hz with e | e
            · subst e
              exact Or.inl (h1.mpr (Or.inr q))
            · exact Or.inr ⟨z, e, q⟩
    have same : ¬ (bd_ct 0 y = m ∧ bd_va R s y ∧ y.getD (bd_pr s i).length 0 = y.getD (bd_pr s j).length 0) → wY_together_117 post (wY_together_43 post (nI i) (nI j) (nI m) n) (nI i) (nI j) (nI m) (bd_eb f) (nI c) yR yN bS bI b :=
      fun h => go f ⟨Or.inl, fun z => z.elim id (fun q => absurd q h)⟩
    refine pk_le 4140 c (fun h => absurd h (by omega)) (fun _ => br_f (by decide) (by_gt hY hy hA ?_))
    rw [bd_g1]
    refine pk_eq (bd_ct 0 y) m (fun hm1 => ?_) (fun hm1 => same (fun h => hm1 h.1))
    have hri := bd_rk_lt hi hsi
    have hrj := bd_rk_lt hj hsj
    have h8 := bd_pr_len s 8
    have hlen := bd_en_len _ _ hy
    refine by_rank hY.1 hY.2.1 hi ⟨vp_in_nI (by omega) (by omega), by_rank hY.1 hY.2.1 hj ⟨vp_in_nI (by omega) (by omega), ?_⟩⟩
    have hgi := bd_Al_get y 0 (bd_pr s i).length (by omega) hA
    have hgj := bd_Al_get y 0 (bd_pr s j).length (by omega) hA
    rw [Nat.zero_add] at hgi hgj
    rw [nI_clamp (show (bd_pr s i).length < 2 ^ 31 by omega), nI_clamp (show (bd_pr s j).length < 2 ^ 31 by omega), hgi, hgj]
    have hbd : ∀ k, k < y.length → y.getD k 0 < 8 := fun k hk => by
      rw [List.getD_eq_getElem?_getD, List.getElem?_eq_getElem hk]
      exact by_m8 hy _ (List.getElem_mem hk)
    have hb1 := hbd (bd_pr s i).length (by omega)
    have hb2 := hbd (bd_pr s j).length (by omega)
    refine pk_eq (y.getD (bd_pr s i).length 0) (y.getD (bd_pr s j).length 0) (fun heq => ?_) (fun hne => same (fun h => hne h.2.2))
    cases f with
    | true => exact br_f (by decide) (go true ⟨fun _ => Or.inl rfl, fun _ => rfl⟩)
    | false =>
      refine br_t rfl (by_exM hY hy (by_ne hN hy) hA (fun e he h1 h2 => ?_))
      refine pk_lt R e (fun hlt => same (fun h => ?_)) (fun hge => go true ⟨fun _ => Or.inr ⟨hm1, fun b hb => Nat.le_trans (h1 b hb) hge, heq⟩, fun _ => rfl⟩) hR rfl
      obtain ⟨b, hb, e2⟩ := h2
      have := h.2.1 b hb
      omega
end
end
section
/-! ===== the first packing, purely ===== -/
def bd_V (R : Nat) (s : Nat → Nat) (m : Nat) (y : List Nat) : Prop := bd_ct 0 y = m ∧ bd_va R s y
def bd_hi (i : Nat) (s : Nat → Nat) : Nat → Nat := fun j => if j ≤ i then 0 else s j
def bd_lo (i : Nat) (s : Nat → Nat) : Nat → Nat := fun j => if j < i then s j else 0
theorem bd_pr_ext {s t : Nat → Nat} : ∀ k, (∀ j, j < k → s j = t j) → bd_pr s k = bd_pr t k
  | 0, _ => rfl
  | k + 1, h => by
    show (if s k = 0 then bd_pr s k else bd_pr s k ++ [k]) = if t k = 0 then bd_pr t k else bd_pr t k ++ [k]
    rw [bd_pr_ext k (fun j hj => h j (by omega)), h k (by omega)]
theorem bd_pr_hi0 (i : Nat) (s : Nat → Nat) : ∀ k, k ≤ i + 1 → bd_pr (bd_hi i s) k = []
  | 0, _ => rfl
  | k + 1, h => by
    show (if bd_hi i s k = 0 then bd_pr (bd_hi i s) k else bd_pr (bd_hi i s) k ++ [k]) = []
    rw [if_pos (show bd_hi i s k = 0 from if_pos (by omega))]
    exact bd_pr_hi0 i s k (by omega)
theorem bd_pr_hi {i : Nat} {s : Nat → Nat} (hs : 0 < s i) : ∀ k, i < k → bd_pr s k = bd_pr s i ++ i :: bd_pr (bd_hi i s) k
  | 0, h => by omega
  | k + 1, h => by
    rcases Nat.lt_or_ge i k with z | z
    · have ih := bd_pr_hi hs k z
      have e : bd_hi i s k = s k := if_neg (by omega)
      show (if s k = 0 then bd_pr s k else bd_pr s k ++ [k]) = bd_pr s i ++ i :: (if bd_hi i s k = 0 then bd_pr (bd_hi i s) k else bd_pr (bd_hi i s) k ++ [k])
      rw [e]
      by_cases hk : s k = 0
      · rw [if_pos hk, if_pos hk]; exact ih
      · rw [if_neg hk, if_neg hk, ih]; simp
    · have e : k = i := by omega
      subst e
      rw [bd_pr_hi0 k s (k + 1) (Nat.le_refl _)]
      exact if_neg (by omega)
theorem bd_pr_lo (i : Nat) (s : Nat → Nat) : ∀ k, i ≤ k → bd_pr (bd_lo i s) k = bd_pr s i
  | 0, h => by
    have e : i = 0 := by omega
    subst e; rfl
  | k + 1, h => by
    rcases Nat.lt_or_ge k i with z | z
    · have e : i = k + 1 := by omega
      subst e
      exact bd_pr_ext (k + 1) (fun j hj => if_pos hj)
    · show (if bd_lo i s k = 0 then bd_pr (bd_lo i s) k else bd_pr (bd_lo i s) k ++ [k]) = _
      rw [if_pos (show bd_lo i s k = 0 from if_neg (by omega))]
      exact bd_pr_lo i s k z
theorem bd_map_hi (i : Nat) (s : Nat → Nat) (k : Nat) : (bd_pr (bd_hi i s) k).map (bd_hi i s) = (bd_pr (bd_hi i s) k).map s := by
  apply List.map_congr_left
  intro j hj
  have h := (bd_pr_mem hj).2
  by_cases e : j ≤ i
  · rw [show bd_hi i s j = 0 from if_pos e] at h; omega
  · exact if_neg e
theorem bd_map_lo (i : Nat) (s : Nat → Nat) (k : Nat) : (bd_pr (bd_lo i s) k).map (bd_lo i s) = (bd_pr (bd_lo i s) k).map s := by
  apply List.map_congr_left
  intro j hj
  have h := (bd_pr_mem hj).2
  by_cases e : j < i
  · exact if_pos e
  · rw [show bd_lo i s j = 0 from if_neg e] at h; omega
theorem bd_it_pr (t : Nat → Nat) : ∀ k, (bd_it t k).Perm ((bd_pr t k).map t)
  | 0 => List.Perm.refl _
  | k + 1 => by
    have ih := bd_it_pr t k
    show (if t k = 0 then bd_it t k else t k :: bd_it t k).Perm ((if t k = 0 then bd_pr t k else bd_pr t k ++ [k]).map t)
    by_cases h : t k = 0
    · rw [if_pos h, if_pos h]; exact ih
    · rw [if_neg h, if_neg h, List.map_append]
      exact (ih.cons (t k)).trans (List.perm_append_singleton (t k) _).symm
/-- loads of the items t in the bins F -/
def bd_dl (t F : Nat → Nat) : Nat → Nat → Nat
  | 0 => fun _ => 0
  | k + 1 => if t k = 0 then bd_dl t F k else bd_ad (bd_dl t F k) (F k) (t k)
theorem bd_dl_ld (t F : Nat → Nat) : ∀ k c, bd_dl t F k c = bd_ld ((bd_pr t k).map F) ((bd_pr t k).map t) c
  | 0, _ => rfl
  | k + 1, c => by
    have ih := bd_dl_ld t F k c
    show (if t k = 0 then bd_dl t F k else bd_ad (bd_dl t F k) (F k) (t k)) c = bd_ld ((if t k = 0 then bd_pr t k else bd_pr t k ++ [k]).map F) ((if t k = 0 then bd_pr t k else bd_pr t k ++ [k]).map t) c
    by_cases h : t k = 0
    · rw [if_pos h, if_pos h]; exact ih
    · rw [if_neg h, if_neg h, List.map_append, List.map_append, bd_ld_app _ _ _ _ _ (by rw [List.length_map, List.length_map]), ← ih]
      show bd_ad (bd_dl t F k) (F k) (t k) c = bd_dl t F k c + ((if F k = c then t k else 0) + 0)
      unfold bd_ad
      by_cases e : F k = c
      · rw [if_pos e.symm, if_pos e]; omega
      · rw [if_neg (fun z => e z.symm), if_neg e]; omega
/-! the block of the packings that begin with p -/
def bd_Blk (V : List Nat → Prop) (N : Nat) (p : List Nat) (g r : Nat) : Prop := (∃ l1 l2, bd_en 0 N = l1 ++ ((bd_en g r).map (fun t => p ++ t) ++ l2) ∧ ∀ z, z ∈ l1 → ¬ V z) ∧ ∃ t, t ∈ bd_en g r ∧ V (p ++ t)
theorem bd_range_sp {b g : Nat} (h : b ≤ g) : ∃ q, List.range (g + 1) = List.range b ++ b :: q := by
  obtain ⟨d, rfl⟩ : ∃ d, g = b + d := ⟨g - b, by omega⟩
  induction d with
  | zero => exact ⟨[], List.range_succ⟩
  | succ d ih =>
    obtain ⟨q, e⟩ := ih (by omega)
    refine ⟨q ++ [b + (d + 1)], ?_⟩
    rw [List.range_succ, show b + (d + 1) = b + d + 1 from by omega, e]
    simp
theorem bd_Blk_step {V : List Nat → Prop} {N g r b0 : Nat} {p : List Nat} (h : bd_Blk V N p g (r + 1)) (hb : b0 ≤ g) (hno : ∀ b, b < b0 → ∀ t, t ∈ bd_en (max g (b + 1)) r → ¬ V (p ++ b :: t)) (hy : ∃ t, t ∈ bd_en (max g (b0 + 1)) r ∧ V (p ++ b0 :: t)) :
    bd_Blk V N (p ++ [b0]) (max g (b0 + 1)) r := by
  obtain ⟨⟨l1, l2, e, hl⟩, _⟩ := h
  obtain ⟨t, ht, hv⟩ := hy
  refine ⟨?_, t, ht, by rw [List.append_assoc]; exact hv⟩
  obtain ⟨q, eq⟩ := bd_range_sp hb
  have e2 : bd_en g (r + 1) = (List.range b0).flatMap (fun b => (bd_en (max g (b + 1)) r).map (fun t => b :: t)) ++ ((bd_en (max g (b0 + 1)) r).map (fun t => b0 :: t) ++ q.flatMap (fun b => (bd_en (max g (b + 1)) r).map (fun t => b :: t))) := by
    show (List.range (g + 1)).flatMap _ = _
    rw [eq, List.flatMap_append, List.flatMap_cons]
  have e3 : ((bd_en (max g (b0 + 1)) r).map (fun t => b0 :: t)).map (fun t => p ++ t) = (bd_en (max g (b0 + 1)) r).map (fun t => (p ++ [b0]) ++ t) := by
    rw [List.map_map]
    apply List.map_congr_left
    intro t _
    show p ++ b0 :: t = (p ++ [b0]) ++ t
    simp
  refine ⟨l1 ++ ((List.range b0).flatMap (fun b => (bd_en (max g (b + 1)) r).map (fun t => b :: t))).map (fun t => p ++ t), (q.flatMap (fun b => (bd_en (max g (b + 1)) r).map (fun t => b :: t))).map (fun t => p ++ t) ++ l2, ?_, fun z hz => ?_⟩
  · rw [e, e2, List.map_append, List.map_append, e3]
    simp only [List.append_assoc]
  · rcases List.mem_append.mp hz with z1 | z1
    · exact hl z z1
    · obtain ⟨y, hy, rfl⟩ := List.mem_map.mp z1
      obtain ⟨b, hb2, hy2⟩ := List.mem_flatMap.mp hy
      obtain ⟨t', ht', rfl⟩ := List.mem_map.mp hy2
      exact hno b (List.mem_range.mp hb2) t' ht'
theorem bd_Blk_end {V : List Nat → Prop} {N g : Nat} {p : List Nat} (h : bd_Blk V N p g 0) : bd_Fst V (bd_en 0 N) p := by
  obtain ⟨⟨l1, l2, e, hl⟩, t, ht, hv⟩ := h
  have et : t = [] := List.mem_singleton.mp ht
  rw [et, List.append_nil] at hv
  refine ⟨l1, l2, ?_, hl, hv⟩
  rw [e]
  show l1 ++ ([p ++ []] ++ l2) = l1 ++ p :: l2
  rw [List.append_nil]; rfl
/-! one more item -/
theorem bd_V_app {R m g w b : Nat} {s : Nat → Nat} {p P Lr t : List Nat} (hP : p.length = P.length) (hL : (bd_pr s 8).map s = P ++ w :: Lr) (hg : g = bd_ct 0 p) :
    bd_V R s m (p ++ b :: t) ↔ bd_ct (max g (b + 1)) t = m ∧ ∀ c, c < m → bd_ad (bd_ld p P) b w c + bd_ld t Lr c ≤ R := by
  have e1 : bd_ct 0 (p ++ b :: t) = bd_ct (max g (b + 1)) t := by rw [bd_ct_app, hg]; rfl
  have e2 : ∀ c, bd_ld (p ++ b :: t) ((bd_pr s 8).map s) c = bd_ad (bd_ld p P) b w c + bd_ld t Lr c := by
    intro c
    rw [hL, bd_ld_app _ _ _ _ _ hP]
    show bd_ld p P c + ((if b = c then w else 0) + bd_ld t Lr c) = _
    unfold bd_ad
    by_cases e : b = c
    · rw [if_pos e, if_pos e.symm]; omega
    · rw [if_neg e, if_neg (fun z => e z.symm)]; omega
  unfold bd_V bd_va
  rw [e1]
  constructor
  · rintro ⟨h1, h2⟩
    rw [h1] at h2
    exact ⟨h1, fun c hc => by rw [← e2]; exact h2 c hc⟩
  · rintro ⟨h1, h2⟩
    rw [h1]
    exact ⟨rfl, fun c hc => by rw [e2]; exact h2 c hc⟩
theorem bd_ad_z {g b w : Nat} {D : Nat → Nat} (hD : ∀ j, g ≤ j → D j = 0) : ∀ j, max g (b + 1) ≤ j → bd_ad D b w j = 0 := by
  intro j hj
  rw [bd_ad_n (by omega)]
  exact hD j (by omega)
theorem bd_ldz {p P : List Nat} {g : Nat} (hg : g = bd_ct 0 p) : ∀ j, g ≤ j → bd_ld p P j = 0 := by
  intro j hj
  exact bd_ld_no p P j (fun h => by have := bd_ct_mem p 0 h; omega)
/-- a packing of the rest gives one of all -/
theorem bd_pk_all {R m' g w b : Nat} {p P Lr L : List Nat} (hP : p.length = P.length) (hL : L = P ++ w :: Lr) (hg : g = bd_ct 0 p) (hm : max g (b + 1) ≤ m') (c : bd_CP R m' Lr (bd_ad (bd_ld p P) b w)) :
    ∃ t, t ∈ bd_en (max g (b + 1)) Lr.length ∧ bd_ct (max g (b + 1)) t ≤ m' ∧ (∀ c, c < m' → bd_ad (bd_ld p P) b w c + bd_ld t Lr c ≤ R) ∧ bd_CP R (bd_ct (max g (b + 1)) t) L (fun _ => 0) := by
  obtain ⟨t, h1, h2, h3⟩ := bd_CP_en hm (bd_ad_z (bd_ldz hg)) c
  refine ⟨t, h1, h2, h3, ?_⟩
  have e1 : bd_ct 0 (p ++ b :: t) = bd_ct (max g (b + 1)) t := by rw [bd_ct_app, hg]; rfl
  have hlen := bd_en_len _ _ h1
  refine bd_asg_CP (p ++ b :: t) L (by rw [hL, List.length_append, List.length_append, List.length_cons, List.length_cons, hlen, hP]) (fun d hd => by rw [← e1]; exact bd_ct_mem _ 0 hd) (fun d hd => ?_)
  have h4 := h3 d (by omega)
  rw [hL, bd_ld_app _ _ _ _ _ hP]
  show 0 + (bd_ld p P d + ((if b = d then w else 0) + bd_ld t Lr d)) ≤ R
  unfold bd_ad at h4
  by_cases e : b = d
  · rw [if_pos e.symm] at h4; rw [if_pos e]; omega
  · rw [if_neg (fun z => e z.symm)] at h4; rw [if_neg e]; omega
theorem bd_pk_yes {R m g w b : Nat} {s : Nat → Nat} {p P Lr : List Nat} (hP : p.length = P.length) (hL : (bd_pr s 8).map s = P ++ w :: Lr) (hg : g = bd_ct 0 p) (hm : max g (b + 1) ≤ m) (hop : bd_Op R ((bd_pr s 8).map s) 0 (fun _ => 0) m) (c : bd_CP R m Lr (bd_ad (bd_ld p P) b w)) :
    ∃ t, t ∈ bd_en (max g (b + 1)) Lr.length ∧ bd_V R s m (p ++ b :: t) := by
  obtain ⟨t, h1, h2, h3, h4⟩ := bd_pk_all hP hL hg hm c
  have h5 := hop.2.2 _ (Nat.zero_le _) h4
  exact ⟨t, h1, (bd_V_app hP hL hg).mpr ⟨by omega, h3⟩⟩
theorem bd_pk_no {R m g w b : Nat} {s : Nat → Nat} {p P Lr t : List Nat} (hP : p.length = P.length) (hL : (bd_pr s 8).map s = P ++ w :: Lr) (hg : g = bd_ct 0 p) (ht : t ∈ bd_en (max g (b + 1)) Lr.length) (hv : bd_V R s m (p ++ b :: t)) : max g (b + 1) ≤ m ∧ bd_CP R m Lr (bd_ad (bd_ld p P) b w) := by
  obtain ⟨h1, h2⟩ := (bd_V_app hP hL hg).mp hv
  refine ⟨by rw [← h1]; exact bd_ct_ge _ _, bd_en_CP ht (by omega) h2⟩
end
section
/-! ===== X: refill, firstBin, pack ===== -/
def bd_PK (B : Nat) (s : Nat → Nat) (xL : Int32) (aN : Nat → Int32) : Prop := ∃ m F, m ≤ 9 ∧ bd_Op B ((bd_pr s 8).map s) 0 (fun _ => 0) m ∧ xL = nI m ∧ (∀ j, j < 8 → 0 < s j → aN j = nI (F j)) ∧ bd_Fst (bd_V B s m) (bd_en 0 (bd_pr s 8).length) ((bd_pr s 8).map F)
/-- bin size B and sizes s (0: absent) are in the component's fields -/
def bd_RX (B : Nat) (s : Nat → Nat) (xB xP xK xL : Int32) (aS aN : Nat → Int32) : Prop :=
  xB = nI B ∧ 1 ≤ B ∧ B ≤ 60 ∧ (∀ j, j < 32 → bt xP j = (decide (j < 8) && decide (0 < s j))) ∧ (∀ j, j < 8 → 0 < s j → aS j = nI (s j)) ∧ (∀ j, s j ≤ B) ∧ (¬ xK = 0 → bd_PK B s xL aN)
theorem bd_V_ex {R m : Nat} {s : Nat → Nat} (h : bd_Op R ((bd_pr s 8).map s) 0 (fun _ => 0) m) : ∃ t, t ∈ bd_en 0 (bd_pr s 8).length ∧ bd_V R s m t := by
  obtain ⟨y, h1, h2, h3⟩ := bd_CP_en (g := 0) (Nat.zero_le m) (fun _ _ => rfl) h.2.1
  rw [List.length_map] at h1
  have h4 : bd_CP R (bd_ct 0 y) ((bd_pr s 8).map s) (fun _ => 0) := bd_en_CP (g := 0) (by rw [List.length_map]; exact h1) (Nat.le_refl _) (fun b hb => h3 b (by omega))
  have h5 := h.2.2 _ (Nat.zero_le _) h4
  refine ⟨y, h1, by omega, fun b hb => ?_⟩
  have := h3 b (by omega)
  omega
theorem bd_V_ld {R m : Nat} {s : Nat → Nat} {p t P Q : List Nat} (hP : p.length = P.length) (hL : (bd_pr s 8).map s = P ++ Q) (hv : bd_V R s m (p ++ t)) : ∀ c, bd_ld p P c ≤ R := by
  intro c
  by_cases hc : c ∈ p
  · have h1 := hv.2 c (bd_ct_mem _ 0 (List.mem_append.mpr (Or.inl hc)))
    rw [hL, bd_ld_app _ _ _ _ _ hP] at h1
    omega
  · rw [bd_ld_no p P c hc]; omega
section
variable {xB xP xR xO xC xE xW xK xL : Int32} {aS aL aR aP aO aW aN : Nat → Int32}
theorem bx_rf15 {post : SX → Prop} {z : Int32} {t F : Nat → Nat} (ht : ∀ j, j < 8 → (bt z j = false ∧ t j = 0) ∨ (bt z j = true ∧ aS j = nI (t j) ∧ 0 < t j ∧ aN j = nI (F j) ∧ F j < 16)) (K : ∀ a, bd_Ag a (bd_dl t F 8) → post (xB, xP, xR, xO, xC, xE, xW, xK, xL, aS, a, aR, aP, aO, aW, aN)) :
    ∀ (d i n : Nat) (a : Nat → Int32), i + d = 8 → d < n → bd_Ag a (bd_dl t F i) → wX_refill_15 post z xB xP xR xO xC xE xW xK xL n (nI i) aS a aR aP aO aW aN := by
  intro d
  induction d with
  | zero =>
    intro i n a hi hn hA
    obtain ⟨n, rfl, _⟩ := bd_fu hn
    have e : i = 8 := by omega
    subst e
    exact pk_le 8 8 (fun _ => K a hA) (fun h => absurd h (by omega))
  | succ d ih =>
    intro i n a hi hn hA
    obtain ⟨n, rfl, _⟩ := bd_fu hn
    refine pk_le 8 i (fun h => absurd h (by omega)) (fun _ => ?_)
    rcases ht i (by omega) with ⟨hb, h0⟩ | ⟨hb, h1, h2, h3, h4⟩
    · refine br_t ((bd_bit z i (by omega)).mpr hb) (nm_r (nI_1 i) (ih (i + 1) n a (by omega) (by omega) ?_))
      show bd_Ag a (if t i = 0 then bd_dl t F i else bd_ad (bd_dl t F i) (F i) (t i))
      rw [if_pos h0]; exact hA
    · refine br_f (fun h => ?_) ?_
      · rw [(bd_bit z i (by omega)).mp h] at hb; cases hb
      · have hin : vp_in (nI i) 8 := vp_in_nI (by omega) (by omega)
        have hin2 : vp_in (nI (F i)) 16 := vp_in_nI h4 (by omega)
        rw [nI_clamp (show i < 2 ^ 31 by omega), h3, h1, nI_clamp (show F i < 2 ^ 31 by omega), hA (F i) h4, nI_add]
        refine ⟨hin, hin2, hin, hin2, fun a25 e25 => nm_r (nI_1 i) (ih (i + 1) n a25 (by omega) (by omega) ?_)⟩
        show bd_Ag a25 (if t i = 0 then bd_dl t F i else bd_ad (bd_dl t F i) (F i) (t i))
        rw [if_neg (by omega), e25]
        exact bd_Ag_ad hA
theorem bx_refill {post : SX → Prop} {z y : Int32} {t F : Nat → Nat} (ht : ∀ j, j < 8 → (bt z j = false ∧ t j = 0) ∨ (bt z j = true ∧ aS j = nI (t j) ∧ 0 < t j ∧ aN j = nI (F j) ∧ F j < 16))
    (K : ∀ a, bd_Ag a (bd_dl t F 8) → post (xB, xP, xB, y, 0, xE, xW, xK, xL, aS, a, aR, aP, aO, aW, aN)) : wpX_refill post (xB, xP, xR, xO, xC, xE, xW, xK, xL, aS, aL, aR, aP, aO, aW, aN) z y := by
  unfold wpX_refill
  exact bx_ask (fun a ha => ⟨9, bx_rf15 ht K 8 0 9 a rfl (by omega) ha⟩)
theorem bx_fb3 {post : Int32 → SX → Prop} {B m i g : Nat} {s F : Nat → Nat} {z : Int32} (hB : xB = nI B) (hB0 : 0 < B) (hB2 : B ≤ 60) (hm : m ≤ 9) (hL : xL = nI m) (hi : i < 8) (hsi : 0 < s i) (hP : ∀ j, j < 8 → bt xP j = decide (0 < s j)) (hz : ∀ j, j < 8 → bt z j = (decide (j < i) && decide (0 < s j)))
    (hS : ∀ j, j < 8 → 0 < s j → aS j = nI (s j)) (hs : ∀ j, s j ≤ B) (hN : ∀ j, j < i → 0 < s j → aN j = nI (F j)) (hg : g = bd_ct 0 ((bd_pr s i).map F)) (hgi : g ≤ (bd_pr s i).length) (hop : bd_Op B ((bd_pr s 8).map s) 0 (fun _ => 0) m) (hld : ∀ c, bd_ld ((bd_pr s i).map F) ((bd_pr s i).map s) c ≤ B)
    (K : ∀ b xR xO xC xE xW aL aR aP aO aW, b ≤ g → (∀ c, c < b → ∀ t, t ∈ bd_en (max g (c + 1)) (bd_pr (bd_hi i s) 8).length → ¬ bd_V B s m ((bd_pr s i).map F ++ c :: t)) → (b < g → ∃ t, t ∈ bd_en (max g (b + 1)) (bd_pr (bd_hi i s) 8).length ∧ bd_V B s m ((bd_pr s i).map F ++ b :: t)) → post (nI b) (xB, xP, xR, xO, xC, xE, xW, xK, xL, aS, aL, aR, aP, aO, aW, aN)) :
    ∀ (d b n : Nat) (xR xO xC xE xW : Int32) (aL aR aP aO aW : Nat → Int32), b + d = g → d < n → (∀ c, c < b → ∀ t, t ∈ bd_en (max g (c + 1)) (bd_pr (bd_hi i s) 8).length → ¬ bd_V B s m ((bd_pr s i).map F ++ c :: t)) →
      wX_firstBin_3 post (nI i) z (nI g) n (nI b) xB xP xR xO xC xE xW xK xL aS aL aR aP aO aW aN := by
  have hsplit : (bd_pr s 8).map s = (bd_pr s i).map s ++ s i :: (bd_pr (bd_hi i s) 8).map s := by rw [bd_pr_hi hsi 8 hi, List.map_append, List.map_cons]
  have hPl : ((bd_pr s i).map F).length = ((bd_pr s i).map s).length := by rw [List.length_map, List.length_map]
  have hcnt : (bd_pr s i).length + 1 + (bd_pr (bd_hi i s) 8).length ≤ 8 := by
    have h1 := bd_pr_len s 8
    rw [bd_pr_hi hsi 8 hi, List.length_append, List.length_cons] at h1
    omega
  have hFg : ∀ j, j < i → 0 < s j → F j < g := fun j hj h => by
    rw [hg]
    refine bd_ct_mem _ 0 (List.mem_map.mpr ⟨j, ?_, rfl⟩)
    obtain ⟨q, e, hq⟩ := bd_pr_app s i (Nat.le_of_lt hj)
    obtain ⟨q', e'⟩ := hq hj h
    rw [e, e']; simp
  have hE : bd_dl (bd_lo i s) F 8 = bd_ld ((bd_pr s i).map F) ((bd_pr s i).map s) := by
    funext c
    rw [bd_dl_ld, bd_map_lo, bd_pr_lo i s 8 (by omega)]
  have hperm : ∀ L' : List Nat, L'.Perm (bd_it (bd_hi i s) 8) → L'.Perm ((bd_pr (bd_hi i s) 8).map s) := fun L' h => by
    rw [← bd_map_hi]
    exact h.trans (bd_it_pr (bd_hi i s) 8)
  intro d
  induction d with
  | zero =>
    intro b n xR xO xC xE xW aL aR aP aO aW hb hn hno
    obtain ⟨n, rfl, _⟩ := bd_fu hn
    have e : b = g := by omega
    subst e
    exact pk_le b b (fun _ => K b xR xO xC xE xW aL aR aP aO aW (Nat.le_refl b) hno (fun h => absurd h (Nat.lt_irrefl b))) (fun h => absurd h (by omega))
  | succ d ih =>
    intro b n xR xO xC xE xW aL aR aP aO aW hb hn hno
    obtain ⟨n, rfl, _⟩ := bd_fu hn
    have hbg : b < g := by omega
    have hsiB := hs i
    have hin16 : vp_in (nI b) 16 := vp_in_nI (by omega) (by omega)
    have hno2 : (∀ t, t ∈ bd_en (max g (b + 1)) (bd_pr (bd_hi i s) 8).length → ¬ bd_V B s m ((bd_pr s i).map F ++ b :: t)) → ∀ c, c < b + 1 → ∀ t, t ∈ bd_en (max g (c + 1)) (bd_pr (bd_hi i s) 8).length → ¬ bd_V B s m ((bd_pr s i).map F ++ c :: t) := fun h c hc => by
      rcases Nat.lt_or_ge c b with q | q
      · exact hno c q
      · have e : c = b := by omega
        rw [e]; exact h
    have hbad : ∀ t, t ∈ bd_en (max g (b + 1)) (bd_pr (bd_hi i s) 8).length → bd_V B s m ((bd_pr s i).map F ++ b :: t) → max g (b + 1) ≤ m ∧ bd_CP B m ((bd_pr (bd_hi i s) 8).map s) (bd_ad (bd_ld ((bd_pr s i).map F) ((bd_pr s i).map s)) b (s i)) := fun t ht hv =>
      bd_pk_no hPl hsplit hg (by rw [List.length_map]; exact ht) hv
    refine pk_le g b (fun h => absurd h (by omega)) (fun _ => ?_)
    refine bx_refill (t := bd_lo i s) (F := F) (fun j hj => ?_) (fun a hA => ?_)
    · rw [hz j hj]
      by_cases h1 : j < i
      · have e : bd_lo i s j = s j := if_pos h1
        rw [e]
        by_cases h2 : 0 < s j
        · have := hFg j h1 h2
          exact Or.inr ⟨by simp [h1, h2], hS j hj h2, h2, hN j h1 h2, by omega⟩
        · exact Or.inl ⟨by simp [h2], by omega⟩
      · exact Or.inl ⟨by simp [h1], if_neg h1⟩
    · rw [hE] at hA
      refine ⟨hin16, vp_in_nI hi (by omega), hin16, fun a22 e22 => ⟨hin16, ?_⟩⟩
      rw [nI_clamp (show b < 2 ^ 31 by omega), nI_clamp (show i < 2 ^ 31 by omega), hS i hi hsi, hA b (by omega), nI_add] at e22
      have hA22 : bd_Ag a22 (bd_ad (bd_ld ((bd_pr s i).map F) ((bd_pr s i).map s)) b (s i)) := by rw [e22]; exact bd_Ag_ad hA
      have hldb := hld b
      rw [nI_clamp (show b < 2 ^ 31 by omega), hA22 b (by omega), bd_ad_s]
      refine pk_lt B (bd_ld ((bd_pr s i).map F) ((bd_pr s i).map s) b + s i) (fun hlt => ?_) (fun hge => ?_) hB rfl
      · refine nm_r (nI_1 b) (ih (b + 1) n _ _ _ _ _ _ _ _ _ _ (by omega) (by omega) (hno2 (fun t ht hv => ?_)))
        obtain ⟨h1, h2⟩ := hbad t ht hv
        have h3 := bd_CP_le _ h2 b (by omega)
        rw [bd_ad_s] at h3
        omega
      · refine bx_wantAll (t := bd_hi i s) (fun j hj => ?_) rfl (fun L' a' hp' hA' => ?_)
        · rw [b_and, b_and, b_xor, hP j hj, hz j hj, b_m1 j (by omega), bd_not i (by omega) (by omega : j < 32)]
          by_cases h1 : j ≤ i
          · refine Or.inl ⟨?_, if_pos h1⟩
            by_cases h2 : j = i
            · simp [h2]
            · by_cases h3 : 0 < s j
              · have h4 : j < i := by omega
                simp [h3, h4]
              · simp [h3]
          · have e : bd_hi i s j = s j := if_neg h1
            rw [e]
            have h4 : ¬ j < i := by omega
            have h5 : ¬ j = i := by omega
            by_cases h3 : 0 < s j
            · have := hs j
              exact Or.inr ⟨by simp [h3, h4, h5], hS j hj h3, h3, by omega⟩
            · exact Or.inl ⟨by simp [h3], by omega⟩
        · have hpL := hperm L' hp'
          have hlen : L'.length = (bd_pr (bd_hi i s) 8).length := by rw [hpL.length_eq, List.length_map]
          have hD0 : ∀ j, g ≤ j → bd_ad (bd_ld ((bd_pr s i).map F) ((bd_pr s i).map s)) b (s i) j = 0 := fun j hj => by
            rw [bd_ad_n (by omega)]
            exact bd_ldz hg j hj
          refine bx_solve (R := B) (o := g) (D := bd_ad (bd_ld ((bd_pr s i).map F) ((bd_pr s i).map s)) b (s i)) (L := L') ⟨hB, rfl, rfl, hB0, by omega, by omega, hA22, hD0, fun j => ?_, hA', fun w hw => ?_⟩ (fun m' e5 z5 a5 p5 a6 a7 hop' hm' => ?_)
          · by_cases e : j = b
            · rw [e, bd_ad_s]; exact hge
            · rw [bd_ad_n e]; exact hld j
          · obtain ⟨j, _, rfl⟩ := List.mem_map.mp (hpL.mem_iff.mp hw)
            exact hs j
          · have hopr := bd_Op_perm hpL hop'
            have hmax : max g (b + 1) = g := Nat.max_eq_left (by omega)
            refine pk_eq m' m (fun heq => ?_) (fun hne => ?_) rfl hL
            · subst heq
              refine K b _ _ _ _ _ _ _ _ _ _ (by omega) hno (fun _ => ?_)
              have := bd_pk_yes (b := b) hPl hsplit hg (by rw [hmax]; exact hopr.1) hop hopr.2.1
              rw [List.length_map] at this
              exact this
            · refine nm_r (nI_1 b) (ih (b + 1) n _ _ _ _ _ _ _ _ _ _ (by omega) (by omega) (hno2 (fun t ht hv => ?_)))
              obtain ⟨h1, h2⟩ := hbad t ht hv
              have h3 := hopr.2.2 m (by omega) h2
              obtain ⟨t', _, h5, _, h6⟩ := bd_pk_all (b := b) hPl hsplit hg (by rw [hmax]; exact hopr.1) hopr.2.1
              have h7 := hop.2.2 _ (Nat.zero_le _) h6
              omega
theorem bx_pk43 {post : SX → Prop} {B m : Nat} {s : Nat → Nat} (hB : xB = nI B) (hB0 : 0 < B) (hB2 : B ≤ 60) (hm : m ≤ 9) (hL : xL = nI m) (hP : ∀ j, j < 8 → bt xP j = decide (0 < s j)) (hS : ∀ j, j < 8 → 0 < s j → aS j = nI (s j)) (hs : ∀ j, s j ≤ B) (hop : bd_Op B ((bd_pr s 8).map s) 0 (fun _ => 0) m)
    (K : ∀ F xR xO xC xE xW aL aR aP aO aW aN, (∀ j, j < 8 → 0 < s j → aN j = nI (F j)) → bd_Fst (bd_V B s m) (bd_en 0 (bd_pr s 8).length) ((bd_pr s 8).map F) → post (xB, xP, xR, xO, xC, xE, xW, xK, xL, aS, aL, aR, aP, aO, aW, aN)) :
    ∀ (d i n : Nat) (F : Nat → Nat) (z : Int32) (g r : Nat) (xR xO xC xE xW : Int32) (aL aR aP aO aW aN : Nat → Int32), i + d = 8 → d < n → (∀ j, j < 8 → bt z j = (decide (j < i) && decide (0 < s j))) → (∀ j, j < i → 0 < s j → aN j = nI (F j)) → g = bd_ct 0 ((bd_pr s i).map F) → g ≤ (bd_pr s i).length →
      (bd_pr s 8).length = (bd_pr s i).length + r → bd_Blk (bd_V B s m) (bd_pr s 8).length ((bd_pr s i).map F) g r → wX_pack_43 post n z (nI g) (nI i) xB xP xR xO xC xE xW xK xL aS aL aR aP aO aW aN := by
  intro d
  induction d with
  | zero =>
    intro i n F z g r xR xO xC xE xW aL aR aP aO aW aN hi hn hz hN hg hgi hr hblk
    obtain ⟨n, rfl, _⟩ := bd_fu hn
    have e : i = 8 := by omega
    subst e
    have e2 : r = 0 := by omega
    subst e2
    exact pk_le 8 8 (fun _ => K F xR xO xC xE xW aL aR aP aO aW aN hN (bd_Blk_end hblk)) (fun h => absurd h (by omega))
  | succ d ih =>
    intro i n F z g r xR xO xC xE xW aL aR aP aO aW aN hi hn hz hN hg hgi hr hblk
    obtain ⟨n, rfl, _⟩ := bd_fu hn
    have hi8 : i < 8 := by omega
    refine pk_le 8 i (fun h => absurd h (by omega)) (fun _ => bx_has hi8 (fun hb => ?_) (fun hb => ?_))
    · rw [hP i hi8] at hb
      have hsi : 0 < s i := of_decide_eq_true hb
      have e1 : bd_pr s (i + 1) = bd_pr s i ++ [i] := if_neg (by omega)
      have hsplit : (bd_pr s 8).map s = (bd_pr s i).map s ++ s i :: (bd_pr (bd_hi i s) 8).map s := by rw [bd_pr_hi hsi 8 hi8, List.map_append, List.map_cons]
      have hcnt : (bd_pr s 8).length = (bd_pr s i).length + 1 + (bd_pr (bd_hi i s) 8).length := by
        rw [bd_pr_hi hsi 8 hi8, List.length_append, List.length_cons]; omega
      have er : r = (bd_pr (bd_hi i s) 8).length + 1 := by omega
      subst er
      have h8 := bd_pr_len s 8
      obtain ⟨t0, ht0, hv0⟩ := hblk.2
      have hld := bd_V_ld (by rw [List.length_map, List.length_map]) hsplit hv0
      refine br_f (by decide) ?_
      refine ⟨g + 1, ?_⟩
      refine bx_fb3 hB hB0 hB2 hm hL hi8 hsi hP hz hS hs hN hg hgi hop hld (fun b xR xO xC xE xW aL aR aP aO aW hbg hno hyes => ?_) g 0 (g + 1) xR xO xC xE xW aL aR aP aO aW (by omega) (by omega) (fun c hc => absurd hc (Nat.not_lt_zero c))
      have hyes2 : ∃ t, t ∈ bd_en (max g (b + 1)) (bd_pr (bd_hi i s) 8).length ∧ bd_V B s m ((bd_pr s i).map F ++ b :: t) := by
        rcases Nat.lt_or_ge b g with q | q
        · exact hyes q
        · have e : b = g := by omega
          obtain ⟨c, t, e3, hc, ht⟩ := bd_en_inv ht0
          subst e3
          rcases Nat.lt_or_ge c b with q2 | q2
          · exact absurd hv0 (hno c q2 t ht)
          · have e4 : c = b := by omega
            subst e4
            exact ⟨t, ht, hv0⟩
      have hblk2 := bd_Blk_step hblk hbg hno hyes2
      have hmapF : (bd_pr s i).map (fun j => if j = i then b else F j) = (bd_pr s i).map F := by
        apply List.map_congr_left
        intro j hj
        exact if_neg (by have := (bd_pr_mem hj).1; omega)
      have hp' : (bd_pr s (i + 1)).map (fun j => if j = i then b else F j) = (bd_pr s i).map F ++ [b] := by
        rw [e1, List.map_append, hmapF]
        show _ ++ [if i = i then b else F i] = _
        rw [if_pos rfl]
      refine ⟨vp_in_nI hi8 (by omega), fun a91 e91 => fun z92 e92 => ?_⟩
      rw [nI_clamp (show i < 2 ^ 31 by omega), bd_by (show b < 64 by omega)] at e91
      have hz2 : ∀ j, j < 8 → bt z92 j = (decide (j < i + 1) && decide (0 < s j)) := fun j hj => by
        rw [e92, b_or, hz j hj, bd_one i (by omega) (by omega : j < 32)]
        by_cases h1 : j = i
        · subst h1; simp [hsi]
        · by_cases h2 : j < i
          · have h3 : j < i + 1 := by omega
            simp [h1, h2, h3]
          · have h3 : ¬ j < i + 1 := by omega
            simp [h1, h2, h3]
      have hN2 : ∀ j, j < i + 1 → 0 < s j → a91 j = nI ((fun j => if j = i then b else F j) j) := fun j hj hsj => by
        rw [e91]
        by_cases h1 : j = i
        · subst h1; rw [pk_us]; exact congrArg nI (if_pos rfl).symm
        · rw [pk_un h1, hN j (by omega) hsj]; exact congrArg nI (if_neg h1).symm
      have step := fun g' (eg : g' = max g (b + 1)) => ih (i + 1) n (fun j => if j = i then b else F j) z92 g' (bd_pr (bd_hi i s) 8).length xR xO xC xE xW aL aR aP aO aW a91 (by omega) (by omega) hz2 hN2 (by rw [hp', bd_ct_app, ← hg, eg]; rfl) (by rw [e1, List.length_append, List.length_singleton]; omega) (by rw [e1, List.length_append, List.length_singleton]; exact hcnt) (by rw [hp', eg]; exact hblk2)
      exact pk_eq b g (fun h => nm_r (nI_1 g) (nm_r (nI_1 i) (step (g + 1) (by omega)))) (fun h => nm_r (nI_1 i) (step g (by omega)))
    · rw [hP i hi8] at hb
      have hsi : s i = 0 := by
        have := of_decide_eq_false hb
        omega
      have e1 : bd_pr s (i + 1) = bd_pr s i := if_pos hsi
      refine br_t rfl (nm_r (nI_1 i) (ih (i + 1) n F z g r xR xO xC xE xW aL aR aP aO aW aN (by omega) (by omega) (fun j hj => ?_) (fun j hj hsj => ?_) (by rw [e1]; exact hg) (by rw [e1]; exact hgi) (by rw [e1]; exact hr) (by rw [e1]; exact hblk)))
      · rw [hz j hj]
        by_cases h1 : j = i
        · subst h1; simp [hsi]
        · have h2 : (j < i + 1) = (j < i) := by
            apply propext; omega
          simp only [h2]
      · rcases Nat.lt_or_ge j i with q | q
        · exact hN j q hsj
        · have e : j = i := by omega
          rw [e] at hsj; omega
/-- the question about all present items -/
theorem bx_all {post : SX → Prop} {s : Nat → Nat} {y : Int32} (h4 : ∀ j, j < 32 → bt xP j = (decide (j < 8) && decide (0 < s j))) (h5 : ∀ j, j < 8 → 0 < s j → aS j = nI (s j)) (h6 : ∀ j, s j ≤ 60)
    (K : ∀ L' a a', L'.Perm ((bd_pr s 8).map s) → bd_Al a' 0 L' → (∀ j, j < 16 → a j = nI 0) → post (xB, xP, y, 0, nI L'.length, xE, xW, xK, xL, aS, a, a', aP, aO, aW, aN)) : wpX_ask (fun u => match u with | (xB, xP, xR, xO, xC, xE, xW, xK, xL, aS, aL, aR, aP, aO, aW, aN) => wpX_wantAll post (xB, xP, xR, xO, xC, xE, xW, xK, xL, aS, aL, aR, aP, aO, aW, aN) xP) (xB, xP, xR, xO, xC, xE, xW, xK, xL, aS, aL, aR, aP, aO, aW, aN) y := by
  refine bx_ask (fun a ha => ?_)
  refine bx_wantAll (t := s) (fun j hj => ?_) rfl (fun L' a' hp hA => K L' a a' (hp.trans (bd_it_pr s 8)) hA ha)
  rw [h4 j (by omega)]
  by_cases q : 0 < s j
  · have := h6 j
    exact Or.inr ⟨by simp [hj, q], h5 j hj q, q, by omega⟩
  · exact Or.inl ⟨by simp [q], by omega⟩
theorem bd_Qall {R : Nat} {s : Nat → Nat} {L' : List Nat} {a a' : Nat → Int32} (hR0 : 0 < R) (hR : R ≤ 480) (hs : ∀ j, s j ≤ R) (hp : L'.Perm ((bd_pr s 8).map s)) (hA : bd_Al a' 0 L') (ha : ∀ j, j < 16 → a j = nI 0) : bd_Q R 0 (fun _ => 0) L' (nI R) 0 (nI L'.length) a a' := by
  have h8 := bd_pr_len s 8
  have hl : L'.length = (bd_pr s 8).length := by rw [hp.length_eq, List.length_map]
  refine ⟨rfl, rfl, rfl, hR0, hR, by omega, ha, fun _ _ => rfl, fun _ => Nat.zero_le _, hA, fun w hw => ?_⟩
  obtain ⟨j, _, rfl⟩ := List.mem_map.mp (hp.mem_iff.mp hw)
  exact hs j
theorem bx_pack {post : SX → Prop} {B : Nat} {s : Nat → Nat} (h : bd_RX B s xB xP xK xL aS aN)
    (K : ∀ xR xO xC xE xW xK xL aL aR aP aO aW aN, bd_RX B s xB xP xK xL aS aN → bd_PK B s xL aN → post (xB, xP, xR, xO, xC, xE, xW, xK, xL, aS, aL, aR, aP, aO, aW, aN)) : wpX_pack post (xB, xP, xR, xO, xC, xE, xW, xK, xL, aS, aL, aR, aP, aO, aW, aN) := by
  have h0 := h
  obtain ⟨h1, h2, h3, h4, h5, h6, h7⟩ := h
  subst h1
  refine br_c (fun hk => ?_) (fun hk => K _ _ _ _ _ _ _ _ _ _ _ _ _ h0 (h7 hk))
  refine bx_all h4 h5 (fun j => Nat.le_trans (h6 j) h3) (fun L' a a' hp hA ha => ?_)
  refine bx_solve (bd_Qall (R := B) (by omega) (by omega) h6 hp hA ha) (fun m e z a1 p a2 a3 hop hm => ⟨9, ?_⟩)
  have hop2 := bd_Op_perm hp hop
  refine bx_pk43 (s := s) rfl (by omega) h3 hm rfl (fun j hj => by rw [h4 j (by omega)]; simp [hj]) h5 h6 hop2 (fun F xR xO xC xE xW aL aR aP aO aW aN hN hF => ?_) 8 0 9 (fun _ => 0) 0 0 (bd_pr s 8).length _ _ _ _ _ _ _ _ _ _ _ rfl (by omega) (fun j _ => by rw [b_0]; simp) (fun j hj => absurd hj (Nat.not_lt_zero j)) rfl (Nat.le_refl _) (by simp [bd_pr]) ?_
  · have pk : bd_PK B s (nI m) aN := ⟨m, F, hm, hop2, rfl, hN, hF⟩
    exact K _ _ _ _ _ _ _ _ _ _ _ _ _ ⟨rfl, h2, h3, h4, h5, h6, fun _ => pk⟩ pk
  · refine ⟨⟨[], [], ?_, fun z hz => absurd hz List.not_mem_nil⟩, ?_⟩
    · show _ = [] ++ ((bd_en 0 (bd_pr s 8).length).map (fun t => [] ++ t) ++ [])
      simp
    · exact bd_V_ex hop2
end
end
section
/-! ===== both sides' answers, purely ===== -/
theorem bd_Lst_Op {R m m' : Nat} {s : Nat → Nat} (h : bd_Lst R s m) (h' : bd_Op R ((bd_pr s 8).map s) 0 (fun _ => 0) m') : m = m' := by
  obtain ⟨h1, h2, h3⟩ := h
  have h8 := bd_pr_len s 8
  by_cases hN : (bd_pr s 8).length = 0
  · rw [h2 hN]
    have e : bd_pr s 8 = [] := List.eq_nil_of_length_eq_zero hN
    rw [e] at h'
    have := h'.2.2 0 (Nat.le_refl 0) (fun b hb => absurd hb (Nat.not_lt_zero b))
    omega
  · obtain ⟨h4, h5⟩ := h3 (by omega)
    obtain ⟨t, ht, hv⟩ := bd_V_ex h'
    have h6 := h5 t ht hv.2
    have h7 := bd_ct_en _ _ ht
    have h9 := hv.1
    obtain ⟨z, hz, hva, hct⟩ := h4 (by omega)
    have h10 : bd_CP R m ((bd_pr s 8).map s) (fun _ => 0) := bd_en_CP (g := 0) (by rw [List.length_map]; exact hz) (by omega) (fun b hb => by
      have := hva b (by omega)
      omega)
    have h11 := h'.2.2 m (Nat.zero_le _) h10
    omega
theorem bd_CP_mem {R m : Nat} : ∀ (L : List Nat) {D : Nat → Nat}, bd_CP R m L D → ∀ x, x ∈ L → x ≤ R
  | [], _, _, _, h => absurd h List.not_mem_nil
  | w :: L, D, ⟨b, hb, c⟩, x, h => by
    rcases List.mem_cons.mp h with e | e
    · have h1 := bd_CP_le L c b hb
      rw [bd_ad_s] at h1
      omega
    · exact bd_CP_mem L c x e
/-- an assignment of all items, renamed to a neat packing -/
theorem bd_nrm {R m : Nat} {s : Nat → Nat} {f : List Nat} (hf : f.length = (bd_pr s 8).length) (hop : bd_Op R ((bd_pr s 8).map s) 0 (fun _ => 0) m) (hc : ∀ c, c ∈ f → c < m) (hl : ∀ c, c < m → bd_ld f ((bd_pr s 8).map s) c ≤ R) :
    ∃ ρ : Nat → Nat, (∀ c, c < m → ρ c < m) ∧ f.map ρ ∈ bd_en 0 (bd_pr s 8).length ∧ bd_V R s m (f.map ρ) ∧ ∀ c, bd_ld (f.map ρ) ((bd_pr s 8).map s) (ρ c) = bd_ld f ((bd_pr s 8).map s) c := by
  obtain ⟨ρ, σ, n1, n2, n3, _, n5⟩ := bd_norm f 0 (Nat.zero_le m) hc
  have hld := fun c => bd_ld_map (ρ := ρ) (σ := σ) n3 f ((bd_pr s 8).map s) c
  have hct : bd_ct 0 (f.map ρ) ≤ m := bd_ct_le _ (Nat.zero_le m) (fun d hd => by
    obtain ⟨d', hd', e⟩ := List.mem_map.mp hd
    rw [← e]; exact (n1 _ (hc d' hd')).1)
  have hle : ∀ c, c < m → bd_ld (f.map ρ) ((bd_pr s 8).map s) c ≤ R := fun c hcm => by
    have := hld (σ c)
    rw [n2] at this
    rw [this]; exact hl _ (n1 c hcm).2
  rw [hf] at n5
  have hcp : bd_CP R (bd_ct 0 (f.map ρ)) ((bd_pr s 8).map s) (fun _ => 0) := bd_en_CP (g := 0) (by rw [List.length_map]; exact n5) (Nat.le_refl _) (fun b hb => by
    have := hle b (by omega)
    omega)
  have := hop.2.2 _ (Nat.zero_le _) hcp
  have hcteq : bd_ct 0 (f.map ρ) = m := by omega
  refine ⟨ρ, fun c h => (n1 c h).1, n5, ⟨hcteq, fun b hb => ?_⟩, hld⟩
  rw [hcteq] at hb
  exact hle b hb
theorem bd_ad0 (b w c : Nat) : bd_ad (fun _ => 0) b w c = if c = b then w else 0 := by
  unfold bd_ad
  by_cases e : c = b
  · rw [if_pos e, if_pos e]; exact Nat.zero_add w
  · rw [if_neg e, if_neg e]
/-! one more item of size x -/
theorem bd_sp_to {R m x : Nat} {s : Nat → Nat} (hop : bd_Op R ((bd_pr s 8).map s) 0 (fun _ => 0) m) (c : bd_CP R m (x :: (bd_pr s 8).map s) (fun _ => 0)) :
    ∃ z, z ∈ bd_en 0 (bd_pr s 8).length ∧ bd_V R s m z ∧ ∃ d, d < m ∧ bd_ld z ((bd_pr s 8).map s) d + x ≤ R := by
  obtain ⟨b, hb, c⟩ := c
  obtain ⟨f, h1, h2, h3⟩ := bd_CP_asg _ c
  rw [List.length_map] at h1
  obtain ⟨ρ, r1, r2, r3, r4⟩ := bd_nrm h1 hop h2 (fun c hc => by have := h3 c hc; omega)
  refine ⟨f.map ρ, r2, r3, ρ b, r1 b hb, ?_⟩
  have := h3 b hb
  rw [bd_ad_s] at this
  rw [r4]; omega
theorem bd_sp_of {R m x d : Nat} {s : Nat → Nat} {z : List Nat} (hz : z ∈ bd_en 0 (bd_pr s 8).length) (hv : bd_V R s m z) (hd : d < m) (hx : bd_ld z ((bd_pr s 8).map s) d + x ≤ R) : bd_CP R m (x :: (bd_pr s 8).map s) (fun _ => 0) := by
  refine ⟨d, hd, bd_en_CP (g := 0) (by rw [List.length_map]; exact hz) (Nat.le_of_eq hv.1) (fun b hb => ?_)⟩
  rw [bd_ad0]
  by_cases e : b = d
  · subst e
    rw [if_pos rfl]; omega
  · rw [if_neg e]
    have := hv.2 b (by rw [hv.1]; exact hb)
    omega
theorem bd_sp_mono {R m x y : Nat} {L : List Nat} (h : y ≤ x) (c : bd_CP R m (x :: L) (fun _ => 0)) : bd_CP R m (y :: L) (fun _ => 0) := by
  obtain ⟨b, hb, c⟩ := c
  refine ⟨b, hb, bd_CP_mono (Nat.le_refl R) L (fun j _ => ?_) c⟩
  rw [bd_ad0, bd_ad0]
  by_cases e : j = b
  · rw [if_pos e, if_pos e]; omega
  · rw [if_neg e, if_neg e]; omega
/-- Y's spare against X's -/
theorem bd_sp_eq {R m v v' : Nat} {s : Nat → Nat} (hop : bd_Op R ((bd_pr s 8).map s) 0 (fun _ => 0) m) (h1 : v = 0 ∨ bd_CP R m (v :: (bd_pr s 8).map s) (fun _ => 0)) (h2 : ∀ x, v < x → x ≤ R → ¬ bd_CP R m (x :: (bd_pr s 8).map s) (fun _ => 0))
    (g0 : v' ≤ R) (g1 : 0 < v' → ∃ z, z ∈ bd_en 0 (bd_pr s 8).length ∧ bd_ct 0 z = m ∧ bd_va R s z ∧ ∃ d, d < m ∧ bd_ld z ((bd_pr s 8).map s) d + v' ≤ R) (g2 : ∀ z, z ∈ bd_en 0 (bd_pr s 8).length → bd_ct 0 z = m → bd_va R s z → ∀ d, d < m → R ≤ bd_ld z ((bd_pr s 8).map s) d + v') : v' = v := by
  apply Nat.le_antisymm
  · rcases Nat.lt_or_ge v v' with q | q
    · obtain ⟨z, z1, z2, z3, d, d1, d2⟩ := g1 (by omega)
      exact absurd (bd_sp_of z1 ⟨z2, z3⟩ d1 d2) (h2 v' q g0)
    · exact q
  · rcases h1 with e | e
    · omega
    · obtain ⟨z, z1, z2, d, d1, d2⟩ := bd_sp_to hop e
      have := g2 z z1 z2.1 z2.2 d d1
      omega
/-! the least room -/
theorem bd_sf_eq {q v M : Nat} {s : Nat → Nat} {w : Nat} (h1 : bd_CP v q ((bd_pr s 8).map s) (fun _ => 0)) (h2 : ∀ R, M ≤ R → R < v → ¬ bd_CP R q ((bd_pr s 8).map s) (fun _ => 0)) (hM : M = 0 ∨ ∃ j, j < 8 ∧ s j = M ∧ 0 < M)
    (g1 : ∃ z, z ∈ bd_en 0 (bd_pr s 8).length ∧ bd_ct 0 z ≤ q ∧ bd_va w s z) (g2 : ∀ z, z ∈ bd_en 0 (bd_pr s 8).length → bd_ct 0 z ≤ q → ∀ R, bd_va R s z → w ≤ R) : w = v := by
  have hcp : bd_CP w q ((bd_pr s 8).map s) (fun _ => 0) := by
    obtain ⟨z, z1, z2, z3⟩ := g1
    refine bd_en_CP (g := 0) (by rw [List.length_map]; exact z1) z2 (fun b _ => ?_)
    by_cases hb : b < bd_ct 0 z
    · have := z3 b hb
      omega
    · rw [bd_ld_no z _ b (fun h => hb (bd_ct_mem z 0 h))]; omega
  apply Nat.le_antisymm
  · obtain ⟨z, z1, z2, z3⟩ := bd_CP_en (g := 0) (Nat.zero_le q) (fun _ _ => rfl) h1
    rw [List.length_map] at z1
    exact g2 z z1 z2 v (fun b hb => by have := z3 b (by omega); omega)
  · rcases Nat.lt_or_ge w v with y | y
    · refine absurd hcp (h2 w ?_ y)
      rcases hM with e | ⟨j, j1, j2, j3⟩
      · omega
      · refine bd_CP_mem _ hcp M (List.mem_map.mpr ⟨j, ?_, j2⟩)
        obtain ⟨p, e, hp⟩ := bd_pr_app s 8 (Nat.le_of_lt j1)
        obtain ⟨p', e'⟩ := hp j1 (by omega)
        rw [e, e']; simp
    · exact y
theorem bd_sf_480 {q : Nat} {s : Nat → Nat} (hq : 1 ≤ q) (hs : ∀ j, s j ≤ 60) : bd_CP 480 q ((bd_pr s 8).map s) (fun _ => 0) := by
  refine bd_asg_CP (List.replicate (bd_pr s 8).length 0) _ (by rw [List.length_replicate, List.length_map]) (fun c hc => ?_) (fun b _ => ?_)
  · rw [List.eq_of_mem_replicate hc]; omega
  · have := bd_ld480 hs (List.replicate (bd_pr s 8).length 0) b
    omega
theorem bd_ct_rep : ∀ (r g : Nat), bd_ct g (List.replicate r 0) ≤ max g 1
  | 0, g => Nat.le_max_left g 1
  | r + 1, g => by
    have := bd_ct_rep r (max g (0 + 1))
    show bd_ct (max g (0 + 1)) (List.replicate r 0) ≤ max g 1
    omega
/-! two items as one -/
def bd_rm (i : Nat) (s : Nat → Nat) : Nat → Nat := fun j => if j = i then 0 else s j
theorem bd_sm_rm {g : Nat → Nat} {i : Nat} : ∀ n, i < n → bd_sm g n = bd_sm (fun j => if j = i then 0 else g j) n + g i
  | 0, h => by omega
  | n + 1, h => by
    show bd_sm g n + g n = bd_sm (fun j => if j = i then 0 else g j) n + (if n = i then 0 else g n) + g i
    rcases Nat.lt_or_ge i n with z | z
    · rw [bd_sm_rm n z, if_neg (by omega)]; omega
    · have e : i = n := by omega
      subst e
      rw [if_pos rfl, bd_sm_ext (g := g) (h := fun j => if j = i then 0 else g j) i (fun j hj => (if_neg (by omega)).symm)]
      omega
theorem bd_dl_sm (t F : Nat → Nat) (c : Nat) : ∀ k, bd_dl t F k c = bd_sm (fun j => if F j = c then t j else 0) k
  | 0 => rfl
  | k + 1 => by
    have ih := bd_dl_sm t F c k
    show (if t k = 0 then bd_dl t F k else bd_ad (bd_dl t F k) (F k) (t k)) c = bd_sm (fun j => if F j = c then t j else 0) k + (if F k = c then t k else 0)
    by_cases h : t k = 0
    · rw [if_pos h, ih, h]; simp
    · rw [if_neg h, ← ih]
      unfold bd_ad
      by_cases e : F k = c
      · rw [if_pos e.symm, if_pos e]
      · rw [if_neg (fun z => e z.symm), if_neg e]; omega
theorem bd_dl_rm {s F : Nat → Nat} {i c : Nat} (hi : i < 8) : bd_dl s F 8 c = bd_dl (bd_rm i s) F 8 c + if F i = c then s i else 0 := by
  rw [bd_dl_sm, bd_dl_sm, bd_sm_rm 8 hi]
  refine congrArg (· + _) (bd_sm_ext 8 (fun j _ => ?_))
  unfold bd_rm
  by_cases e : j = i
  · rw [if_pos e, if_pos e]; simp
  · rw [if_neg e, if_neg e]
theorem bd_dl_cg {s F G : Nat → Nat} {c : Nat} (h : ∀ j, j < 8 → 0 < s j → F j = G j) : bd_dl s F 8 c = bd_dl s G 8 c := by
  rw [bd_dl_sm, bd_dl_sm]
  refine bd_sm_ext 8 (fun j hj => ?_)
  by_cases e : 0 < s j
  · rw [h j hj e]
  · have : s j = 0 := by omega
    rw [this]; simp
theorem bd_fun_of {s : Nat → Nat} : ∀ (k : Nat) (f : List Nat), f.length = (bd_pr s k).length → ∃ F : Nat → Nat, (bd_pr s k).map F = f
  | 0, f, h => ⟨fun _ => 0, by
    have e : f = [] := List.eq_nil_of_length_eq_zero h
    rw [e]; rfl⟩
  | k + 1, f, h => by
    by_cases hk : s k = 0
    · have e : bd_pr s (k + 1) = bd_pr s k := if_pos hk
      rw [e] at h ⊢
      exact bd_fun_of k f h
    · have e : bd_pr s (k + 1) = bd_pr s k ++ [k] := if_neg hk
      rw [e, List.length_append, List.length_singleton] at h
      have hne : f ≠ [] := fun z => by rw [z] at h; cases h
      have ef := List.dropLast_concat_getLast hne
      obtain ⟨F, hF⟩ := bd_fun_of (s := s) k f.dropLast (by rw [List.length_dropLast]; omega)
      refine ⟨fun j => if j = k then f.getLast hne else F j, ?_⟩
      rw [e, List.map_append]
      have e2 : (bd_pr s k).map (fun j => if j = k then f.getLast hne else F j) = (bd_pr s k).map F := by
        apply List.map_congr_left
        intro j hj
        exact if_neg (by have := (bd_pr_mem hj).1; omega)
      rw [e2, hF]
      show f.dropLast ++ [if k = k then f.getLast hne else F k] = f
      rw [if_pos rfl]; exact ef
theorem bd_to_of {R m i j : Nat} {s : Nat → Nat} {z : List Nat} (hi : i < 8) (hj : j < 8) (hij : i ≠ j) (hsi : 0 < s i) (hsj : 0 < s j) (hz : z ∈ bd_en 0 (bd_pr s 8).length) (hv : bd_V R s m z) (he : z.getD (bd_pr s i).length 0 = z.getD (bd_pr s j).length 0) :
    bd_CP R m ((s i + s j) :: (bd_pr (bd_rm j (bd_rm i s)) 8).map (bd_rm j (bd_rm i s))) (fun _ => 0) := by
  obtain ⟨F, rfl⟩ := bd_fun_of 8 z (bd_en_len _ _ hz)
  rw [bd_rk_get hi hsi, bd_rk_get hj hsj] at he
  have hFm : ∀ k, k < 8 → 0 < s k → F k < m := fun k hk hsk => by
    rw [← hv.1]
    refine bd_ct_mem _ 0 (List.mem_map.mpr ⟨k, ?_, rfl⟩)
    obtain ⟨p, e, hp⟩ := bd_pr_app s 8 (Nat.le_of_lt hk)
    obtain ⟨p', e'⟩ := hp hk hsk
    rw [e, e']; simp
  refine ⟨F i, hFm i hi hsi, bd_asg_CP ((bd_pr (bd_rm j (bd_rm i s)) 8).map F) _ (by rw [List.length_map, List.length_map]) (fun c hc => ?_) (fun c hc => ?_)⟩
  · obtain ⟨k, hk, rfl⟩ := List.mem_map.mp hc
    obtain ⟨k1, k2⟩ := bd_pr_mem hk
    refine hFm k k1 ?_
    unfold bd_rm at k2
    by_cases e1 : k = j
    · rw [if_pos e1] at k2; omega
    · rw [if_neg e1] at k2
      by_cases e2 : k = i
      · rw [if_pos e2] at k2; omega
      · rw [if_neg e2] at k2; exact k2
  · rw [← bd_dl_ld]
    have h1 := hv.2 c (by rw [hv.1]; exact hc)
    rw [← bd_dl_ld, bd_dl_rm hi, bd_dl_rm (s := bd_rm i s) hj, show bd_rm i s j = s j from if_neg (fun z => hij z.symm), ← he] at h1
    rw [bd_ad0]
    by_cases e : F i = c
    · rw [if_pos e, if_pos e] at h1; rw [if_pos e.symm]; omega
    · rw [if_neg e, if_neg e] at h1; rw [if_neg (fun z => e z.symm)]; omega
theorem bd_to_F {R m i j : Nat} {s : Nat → Nat} (hi : i < 8) (hj : j < 8) (hij : i ≠ j) (c : bd_CP R m ((s i + s j) :: (bd_pr (bd_rm j (bd_rm i s)) 8).map (bd_rm j (bd_rm i s))) (fun _ => 0)) :
    ∃ F : Nat → Nat, F i = F j ∧ (∀ d, d ∈ (bd_pr s 8).map F → d < m) ∧ ∀ d, d < m → bd_ld ((bd_pr s 8).map F) ((bd_pr s 8).map s) d ≤ R := by
  obtain ⟨b, hb, c⟩ := c
  obtain ⟨f, h1, h2, h3⟩ := bd_CP_asg _ c
  rw [List.length_map] at h1
  obtain ⟨F, rfl⟩ := bd_fun_of 8 f h1
  have ei : (if i = i ∨ i = j then b else F i) = b := if_pos (Or.inl rfl)
  have ej : (if j = i ∨ j = j then b else F j) = b := if_pos (Or.inr rfl)
  refine ⟨fun k => if k = i ∨ k = j then b else F k, ei.trans ej.symm, fun d hd => ?_, fun d hd => ?_⟩
  · obtain ⟨k, hk, rfl⟩ := List.mem_map.mp hd
    obtain ⟨k1, k2⟩ := bd_pr_mem hk
    by_cases e : k = i ∨ k = j
    · show (if k = i ∨ k = j then b else F k) < m
      rw [if_pos e]; exact hb
    · show (if k = i ∨ k = j then b else F k) < m
      rw [if_neg e]
      refine h2 _ (List.mem_map.mpr ⟨k, ?_, rfl⟩)
      have e1 : ¬ k = i := fun z => e (Or.inl z)
      have e2 : ¬ k = j := fun z => e (Or.inr z)
      have e3 : bd_rm j (bd_rm i s) k = s k := by unfold bd_rm; rw [if_neg e2, if_neg e1]
      obtain ⟨p, e4, hp⟩ := bd_pr_app (bd_rm j (bd_rm i s)) 8 (Nat.le_of_lt k1)
      obtain ⟨p', e'⟩ := hp k1 (by rw [e3]; exact k2)
      rw [e4, e']; simp
  · have h4 := h3 d hd
    rw [← bd_dl_ld] at h4
    rw [← bd_dl_ld, bd_dl_rm hi, bd_dl_rm (s := bd_rm i s) hj, show bd_rm i s j = s j from if_neg (fun z => hij z.symm)]
    rw [ei, ej]
    have h5 : bd_dl (bd_rm j (bd_rm i s)) (fun k => if k = i ∨ k = j then b else F k) 8 d = bd_dl (bd_rm j (bd_rm i s)) F 8 d := by
      refine bd_dl_cg (fun k _ hk => ?_)
      refine if_neg (fun z => ?_)
      unfold bd_rm at hk
      rcases z with z | z
      · by_cases e : k = j
        · rw [if_pos e] at hk; omega
        · rw [if_neg e, if_pos z] at hk; omega
      · rw [if_pos z] at hk; omega
    rw [h5]
    rw [bd_ad0] at h4
    by_cases e : b = d
    · rw [if_pos e.symm] at h4; rw [if_pos e, if_pos e]; omega
    · rw [if_neg (fun z => e z.symm)] at h4; rw [if_neg e, if_neg e]; omega
theorem bd_to_to {R m i j : Nat} {s : Nat → Nat} (hi : i < 8) (hj : j < 8) (hij : i ≠ j) (hsi : 0 < s i) (hsj : 0 < s j) (hop : bd_Op R ((bd_pr s 8).map s) 0 (fun _ => 0) m) (c : bd_CP R m ((s i + s j) :: (bd_pr (bd_rm j (bd_rm i s)) 8).map (bd_rm j (bd_rm i s))) (fun _ => 0)) :
    ∃ z, z ∈ bd_en 0 (bd_pr s 8).length ∧ bd_V R s m z ∧ z.getD (bd_pr s i).length 0 = z.getD (bd_pr s j).length 0 := by
  obtain ⟨F, f1, f2, f3⟩ := bd_to_F hi hj hij c
  obtain ⟨ρ, _, r2, r3, _⟩ := bd_nrm (by rw [List.length_map]) hop f2 f3
  refine ⟨_, r2, r3, ?_⟩
  rw [List.map_map, bd_rk_get hi hsi, bd_rk_get hj hsj]
  show ρ (F i) = ρ (F j)
  rw [f1]
theorem bd_to_ge {R m' i j : Nat} {s : Nat → Nat} (hi : i < 8) (hj : j < 8) (hij : i ≠ j) (c : bd_CP R m' ((s i + s j) :: (bd_pr (bd_rm j (bd_rm i s)) 8).map (bd_rm j (bd_rm i s))) (fun _ => 0)) : bd_CP R m' ((bd_pr s 8).map s) (fun _ => 0) := by
  obtain ⟨F, f1, f2, f3⟩ := bd_to_F hi hj hij c
  exact bd_asg_CP _ _ (by rw [List.length_map, List.length_map]) f2 (fun b hb => by have := f3 b hb; omega)
end
section
/-! ===== Y: the public methods ===== -/
theorem bd_en_st (s : Nat → Nat) : ∃ l, bd_en 0 (bd_pr s 8).length = List.replicate (bd_pr s 8).length 0 :: l ∧ bd_Ch (bd_nx 0) (List.replicate (bd_pr s 8).length 0 :: l) none ∧ l.length + 1 ≤ 4140 := by
  obtain ⟨l, hl⟩ := bd_en_hd (bd_pr s 8).length 0
  have hlen := bd_en8 (bd_pr_len s 8)
  have hC := bd_Ch_en (bd_pr s 8).length 0
  rw [hl] at hlen hC
  exact ⟨l, hl, hC, hlen⟩
section
variable {yR yN : Int32} {bS bI bB : Nat → Int32}
theorem by_isN {post : Int32 → Prop} {s : Nat → Nat} {x : Int32} (hS : ∀ j, j < 8 → bS j = nI (s j)) (hs : ∀ j, s j ≤ 60) (hx : ∀ i, i < 8 → x = nI i → s i = 0) (h : post 0) : wpY_is post (yR, yN, bS, bI, bB) x := by
  by_cases q : ∃ i, i < 8 ∧ x = nI i
  · obtain ⟨i, hi, rfl⟩ := q
    exact by_is hS hs hi (fun z => by rw [hx i hi rfl] at z; omega) (fun _ => h)
  · exact by_is_o q h
theorem by_binOf {post : Int32 → SY → Prop} {s : Nat → Nat} {R i : Nat} {y0 : List Nat} (hR : yR = nI R) (hR2 : R ≤ 480) (hS : ∀ j, j < 8 → bS j = nI (s j)) (hs : ∀ j, s j ≤ 60) (hi : i < 8) (hsi : 0 < s i)
    (hF : ∀ m, bd_Lst R s m → bd_Fst (fun z => bd_ct 0 z = m ∧ bd_va R s z) (bd_en 0 (bd_pr s 8).length) y0) (K : ∀ n a b, post (nI (y0.getD (bd_pr s i).length 0)) (yR, n, bS, a, b)) : wpY_binOf post (yR, yN, bS, bI, bB) (nI i) := by
  have h8 := bd_pr_len s 8
  have hN : 0 < (bd_pr s 8).length := by have := bd_rk_lt hi hsi; omega
  unfold wpY_binOf
  refine by_least hR hR2 hS hs (fun m a b hL hA => ?_)
  refine by_first hS hs (fun a2 b2 h1 h2 => ?_)
  refine by_is hS hs hi (fun _ => ?_) (fun h => absurd h (by omega))
  obtain ⟨l, hl, hC, hlen⟩ := bd_en_st s
  have hF2 := hF m hL
  rw [hl] at hF2
  exact ⟨4142, by_bo18 hR hR2 hL.1 ⟨hS, hs, rfl, h1⟩ hN hi hsi (fun b => K _ _ _) 4142 l _ 0 b2 hC (fun z hz => by rw [hl]; exact hz) (by omega) (by omega) (by_Al0 _ 0 (fun j _ hj => h2 j (by omega))) hF2⟩
theorem by_binOfN {post : Int32 → SY → Prop} {s : Nat → Nat} {R : Nat} {x : Int32} (hR : yR = nI R) (hR2 : R ≤ 480) (hS : ∀ j, j < 8 → bS j = nI (s j)) (hs : ∀ j, s j ≤ 60) (hx : ∀ i, i < 8 → x = nI i → s i = 0)
    (K : ∀ n a b, post (-1) (yR, n, bS, a, b)) : wpY_binOf post (yR, yN, bS, bI, bB) x := by
  unfold wpY_binOf
  refine by_least hR hR2 hS hs (fun m a b hL hA => ?_)
  refine by_first hS hs (fun a2 b2 h1 h2 => ?_)
  exact by_isN hS hs hx ⟨1, pk_le 4140 0 (fun _ => K _ _ _) (fun _ => br_t rfl (K _ _ _))⟩
theorem by_without {post : Int32 → SY → Prop} {s : Nat → Nat} {R i : Nat} (hR : yR = nI R) (hR2 : R ≤ 480) (hS : ∀ j, j < 8 → bS j = nI (s j)) (hs : ∀ j, s j ≤ 60) (hi : i < 8) (hsi : 0 < s i)
    (K : ∀ m n S a b, bd_Lst R (bd_rm i s) m → (∀ j, j < 8 → S j = nI (s j)) → post (nI m) (yR, n, S, a, b)) : wpY_leastWithout post (yR, yN, bS, bI, bB) (nI i) := by
  have hin : vp_in (nI i) 8 := vp_in_nI hi (by omega)
  have ec : (nI i).toNatClampNeg = i := nI_clamp (by omega)
  unfold wpY_leastWithout
  refine by_is hS hs hi (fun _ => ?_) (fun h => absurd h (by omega))
  refine br_f (by decide) ⟨hin, nm_r (e' := nI (s i)) (by rw [ec, hS i hi]) ⟨hin, fun S11 e11 => ?_⟩⟩
  rw [ec] at e11
  refine by_least (s := bd_rm i s) hR hR2 (fun j hj => ?_) (fun j => ?_) (fun m a b hL hA => ⟨hin, fun S19 e19 => K m _ S19 a b hL (fun j hj => ?_)⟩)
  · rw [e11]
    unfold bd_rm
    by_cases e : j = i
    · subst e; rw [pk_us, if_pos rfl]; rfl
    · rw [pk_un e, if_neg e]; exact hS j hj
  · unfold bd_rm
    have := hs j
    split <;> omega
  · rw [ec] at e19
    rw [e19, e11]
    by_cases e : j = i
    · subst e; rw [pk_us]
    · rw [pk_un e, pk_un e]; exact hS j hj
theorem by_withoutN {post : Int32 → SY → Prop} {s : Nat → Nat} {x : Int32} (hS : ∀ j, j < 8 → bS j = nI (s j)) (hs : ∀ j, s j ≤ 60) (hx : ∀ i, i < 8 → x = nI i → s i = 0) (K : post (-1) (yR, yN, bS, bI, bB)) : wpY_leastWithout post (yR, yN, bS, bI, bB) x := by
  unfold wpY_leastWithout
  exact by_isN hS hs hx (br_t rfl K)
theorem by_spare {post : Int32 → SY → Prop} {s : Nat → Nat} {R : Nat} (hR : yR = nI R) (hR2 : R ≤ 480) (hS : ∀ j, j < 8 → bS j = nI (s j)) (hs : ∀ j, s j ≤ 60)
    (K : ∀ m v n a b, bd_Lst R s m → v ≤ R → (0 < v → ∃ z, z ∈ bd_en 0 (bd_pr s 8).length ∧ bd_ct 0 z = m ∧ bd_va R s z ∧ ∃ d, d < m ∧ bd_ld z ((bd_pr s 8).map s) d + v ≤ R) → (∀ z, z ∈ bd_en 0 (bd_pr s 8).length → bd_ct 0 z = m → bd_va R s z → ∀ d, d < m → R ≤ bd_ld z ((bd_pr s 8).map s) d + v) → post (nI v) (yR, n, bS, a, b)) : wpY_spare post (yR, yN, bS, bI, bB) := by
  have h8 := bd_pr_len s 8
  unfold wpY_spare
  refine by_least hR hR2 hS hs (fun m a b hL hA => ?_)
  refine by_first hS hs (fun a2 b2 h1 h2 => ?_)
  refine pk_le (bd_pr s 8).length 0 (fun hN => ?_) (fun hN => ?_)
  · have hm := hL.2.1 (by omega)
    have k := fun n a b => K m 0 n a b hL (Nat.zero_le _) (fun z => absurd z (Nat.lt_irrefl 0)) (fun z _ _ _ d hd => by omega)
    exact ⟨1, pk_le 4140 0 (fun _ => k _ _ _) (fun _ => br_t rfl (k _ _ _))⟩
  · obtain ⟨l, hl, hC, hlen⟩ := bd_en_st s
    refine ⟨4142, by_sp27 hR hR2 hL.1 ⟨hS, hs, rfl, h1⟩ hN 4142 l _ 0 0 b2 hC (fun z hz => by rw [hl]; exact hz) (by omega) (by omega) (by_Al0 _ 0 (fun j _ hj => h2 j (by omega))) (Nat.zero_le _) (fun v b' k1 k2 k3 k4 => K m v _ _ _ hL k2 (fun z => ?_) (fun z hz => ?_))⟩
    · rw [hl]; exact k3 z
    · rw [hl] at hz; exact k4 z hz
theorem by_sizeFor {post : Int32 → SY → Prop} {s : Nat → Nat} {q : Nat} (hq0 : 1 ≤ q) (hq : q ≤ 8) (hS : ∀ j, j < 8 → bS j = nI (s j)) (hs : ∀ j, s j ≤ 60) (hN : 0 < (bd_pr s 8).length)
    (K : ∀ w n a b, (∃ z, z ∈ bd_en 0 (bd_pr s 8).length ∧ bd_ct 0 z ≤ q ∧ bd_va w s z) → (∀ z, z ∈ bd_en 0 (bd_pr s 8).length → bd_ct 0 z ≤ q → ∀ R, bd_va R s z → w ≤ R) → post (nI w) (yR, n, bS, a, b)) : wpY_sizeFor post (yR, yN, bS, bI, bB) (nI q) := by
  have h8 := bd_pr_len s 8
  unfold wpY_sizeFor
  refine by_first hS hs (fun a2 b2 h1 h2 => ?_)
  refine pk_le (bd_pr s 8).length 0 (fun h => absurd h (by omega)) (fun _ => pk_lt q 1 (fun h => absurd h (by omega)) (fun _ => pk_lt 8 q (fun h => absurd h (by omega)) (fun _ => ?_)))
  obtain ⟨l, hl, hC, hlen⟩ := bd_en_st s
  refine ⟨4142, by_sf33 hq ⟨hS, hs, rfl, h1⟩ hN 4142 l _ 0 none b2 hC (fun z hz => by rw [hl]; exact hz) (by omega) (by omega) (by_Al0 _ 0 (fun j _ hj => h2 j (by omega))) (fun w z => by cases z) (fun v b' k1 k2 k3 => ?_)⟩
  have hct : bd_ct 0 (List.replicate (bd_pr s 8).length 0) ≤ q := Nat.le_trans (bd_ct_rep _ 0) (by omega)
  obtain ⟨w, e, _⟩ := k2 _ (List.mem_cons_self ..) hct 480 (fun b _ => bd_ld480 hs _ b)
  subst e
  refine K w _ _ _ ?_ (fun z hz hz2 R hR => ?_)
  · rcases k1 w rfl with c | c
    · cases c
    · rw [hl]; exact c
  · rw [hl] at hz
    obtain ⟨w', e, he⟩ := k2 z hz hz2 R hR
    injection e with e
    omega
theorem by_sizeForN {post : Int32 → SY → Prop} {s : Nat → Nat} {x : Int32} (hS : ∀ j, j < 8 → bS j = nI (s j)) (hs : ∀ j, s j ≤ 60) (hx : x < 1 ∨ 8 < x ∨ (bd_pr s 8).length = 0)
    (K : ∀ n a b, post (-1) (yR, n, bS, a, b)) : wpY_sizeFor post (yR, yN, bS, bI, bB) x := by
  have h8 := bd_pr_len s 8
  unfold wpY_sizeFor
  refine by_first hS hs (fun a2 b2 h1 h2 => ?_)
  have out : ∃ n, wY_sizeFor_33 post x n (-1) 0 0 yR (nI (bd_pr s 8).length) bS a2 b2 := ⟨1, pk_le 4140 0 (fun _ => K _ _ _) (fun _ => br_t rfl (K _ _ _))⟩
  refine pk_le (bd_pr s 8).length 0 (fun _ => out) (fun h => br_c (fun _ => out) (fun g1 => br_c (fun _ => out) (fun g2 => ?_)))
  rcases hx with z | z | z
  · exact absurd z g1
  · exact absurd z g2
  · omega
theorem by_tog {post : Int32 → SY → Prop} {s : Nat → Nat} {R i j : Nat} (hR : yR = nI R) (hR2 : R ≤ 480) (hS : ∀ j, j < 8 → bS j = nI (s j)) (hs : ∀ j, s j ≤ 60) (hi : i < 8) (hsi : 0 < s i) (hj : j < 8) (hsj : 0 < s j) (hij : i ≠ j)
    (K : ∀ m f n a b, bd_Lst R s m → (f = true ↔ ∃ z, z ∈ bd_en 0 (bd_pr s 8).length ∧ bd_ct 0 z = m ∧ bd_va R s z ∧ z.getD (bd_pr s i).length 0 = z.getD (bd_pr s j).length 0) → post (bd_eb f) (yR, n, bS, a, b)) : wpY_together post (yR, yN, bS, bI, bB) (nI i) (nI j) := by
  have h8 := bd_pr_len s 8
  have hN : 0 < (bd_pr s 8).length := by have := bd_rk_lt hi hsi; omega
  unfold wpY_together
  refine by_least hR hR2 hS hs (fun m a b hL hA => ?_)
  refine by_first hS hs (fun a2 b2 h1 h2 => ?_)
  refine by_is hS hs hi (fun _ => br_f (by decide) ?_) (fun h => absurd h (by omega))
  refine by_is hS hs hj (fun _ => br_f (by decide) ?_) (fun h => absurd h (by omega))
  refine pk_eq i j (fun h => absurd h hij) (fun _ => ?_)
  obtain ⟨l, hl, hC, hlen⟩ := bd_en_st s
  refine ⟨4142, by_to43 hR hR2 hL.1 ⟨hS, hs, rfl, h1⟩ hN hi hsi hj hsj 4142 l _ 0 false b2 hC (fun z hz => by rw [hl]; exact hz) (by omega) (by omega) (by_Al0 _ 0 (fun j _ hj => h2 j (by omega))) (fun f b' k1 => K m f _ _ _ hL (k1.trans ⟨fun z => ?_, fun z => ?_⟩))⟩
  · rcases z with z | z
    · cases z
    · rw [hl]; exact z
  · rw [hl] at z; exact Or.inr z
theorem by_togN {post : Int32 → SY → Prop} {s : Nat → Nat} {R : Nat} {x y : Int32} (hR : yR = nI R) (hR2 : R ≤ 480) (hS : ∀ j, j < 8 → bS j = nI (s j)) (hs : ∀ j, s j ≤ 60) (hx : (∀ i, i < 8 → x = nI i → s i = 0) ∨ (∀ i, i < 8 → y = nI i → s i = 0) ∨ x = y)
    (K : ∀ n a b, post 0 (yR, n, bS, a, b)) : wpY_together post (yR, yN, bS, bI, bB) x y := by
  unfold wpY_together
  refine by_least hR hR2 hS hs (fun m a b hL hA => ?_)
  refine by_first hS hs (fun a2 b2 h1 h2 => ?_)
  have out : ∃ n, wY_together_43 post x y (nI m) n 0 0 0 yR (nI (bd_pr s 8).length) bS a2 b2 := ⟨1, pk_le 4140 0 (fun _ => ⟨by_eb false, K _ _ _⟩) (fun _ => br_t rfl ⟨by_eb false, K _ _ _⟩)⟩
  have two : ∀ z : Int32, (∀ post : Int32 → Prop, post 0 → wpY_is post (yR, nI (bd_pr s 8).length, bS, a2, b2) z) ∨ (∀ post : Int32 → Prop, post 1 → wpY_is post (yR, nI (bd_pr s 8).length, bS, a2, b2) z) := by
    intro z
    by_cases q : ∀ i, i < 8 → z = nI i → s i = 0
    · exact Or.inl (fun post h => by_isN hS hs q h)
    · refine Or.inr (fun post h => ?_)
      by_cases q2 : ∃ i, i < 8 ∧ z = nI i
      · obtain ⟨i, hi, rfl⟩ := q2
        refine by_is hS hs hi (fun _ => h) (fun h0 => absurd (fun k hk e => ?_) q)
        rw [nI_eq (by omega) (by omega)] at e
        rw [← e]; exact h0
      · exact absurd (fun i hi e => absurd ⟨i, hi, e⟩ q2) q
  rcases hx with h | h | h
  · exact by_isN hS hs h (br_t rfl out)
  · rcases two x with t | t
    · exact t _ (br_t rfl out)
    · exact t _ (br_f (by decide) (by_isN hS hs h (br_t rfl out)))
  · rcases two x with t | t
    · exact t _ (br_t rfl out)
    · refine t _ (br_f (by decide) ?_)
      rcases two y with t2 | t2
      · exact t2 _ (br_t rfl out)
      · exact t2 _ (br_f (by decide) (br_t h out))
end
end
section
/-! ===== X: largest, spare, sizeFor ===== -/
section
variable {xB xP xR xO xC xE xW xK xL : Int32} {aS aL aR aP aO aW aN : Nat → Int32}
theorem bx_hasN {post : Int32 → Prop} {s : Nat → Nat} {x : Int32} (h4 : ∀ j, j < 32 → bt xP j = (decide (j < 8) && decide (0 < s j))) (hx : ∀ i, i < 8 → x = nI i → s i = 0) (h : post 0) : wpX_has post (xB, xP, xR, xO, xC, xE, xW, xK, xL, aS, aL, aR, aP, aO, aW, aN) x := by
  by_cases q : ∃ i, i < 8 ∧ x = nI i
  · obtain ⟨i, hi, rfl⟩ := q
    refine bx_has hi (fun z => ?_) (fun _ => h)
    rw [h4 i (by omega), hx i hi rfl] at z
    simp at z
  · exact bx_has_o q h
theorem bx_hasY {post : Int32 → Prop} {s : Nat → Nat} {i : Nat} (h4 : ∀ j, j < 32 → bt xP j = (decide (j < 8) && decide (0 < s j))) (hi : i < 8) (hs : 0 < s i) (h : post 1) : wpX_has post (xB, xP, xR, xO, xC, xE, xW, xK, xL, aS, aL, aR, aP, aO, aW, aN) (nI i) := by
  refine bx_has hi (fun _ => h) (fun z => ?_)
  rw [h4 i (by omega)] at z
  simp [hi, hs] at z
theorem bx_la4 {post : Int32 → Prop} {s : Nat → Nat} (h4 : ∀ j, j < 32 → bt xP j = (decide (j < 8) && decide (0 < s j))) (h5 : ∀ j, j < 8 → 0 < s j → aS j = nI (s j)) (h6 : ∀ j, s j ≤ 60)
    (K : ∀ M, M ≤ 60 → (∀ j, j < 8 → s j ≤ M) → (M = 0 ∨ ∃ j, j < 8 ∧ s j = M ∧ 0 < M) → post (nI M)) :
    ∀ (d i n M : Nat), i + d = 8 → d < n → M ≤ 60 → (∀ j, j < i → s j ≤ M) → (M = 0 ∨ ∃ j, j < 8 ∧ s j = M ∧ 0 < M) → wX_largest_4 post xB xP xR xO xC xE xW xK xL aS aL aR aP aO aW aN n (nI M) (nI i) := by
  intro d
  induction d with
  | zero =>
    intro i n M hi hn hM h1 h2
    obtain ⟨n, rfl, _⟩ := bd_fu hn
    have e : i = 8 := by omega
    subst e
    exact pk_le 8 8 (fun _ => K M hM h1 h2) (fun h => absurd h (by omega))
  | succ d ih =>
    intro i n M hi hn hM h1 h2
    obtain ⟨n, rfl, _⟩ := bd_fu hn
    have hin : vp_in (nI i) 8 := vp_in_nI (by omega) (by omega)
    have next : ∀ M', M' ≤ 60 → M ≤ M' → s i ≤ M' → (M' = 0 ∨ ∃ j, j < 8 ∧ s j = M' ∧ 0 < M') → wX_largest_4 post xB xP xR xO xC xE xW xK xL aS aL aR aP aO aW aN n (nI M') (nI (i + 1)) := fun M' m1 m2 m3 m4 => ih (i + 1) n M' (by omega) (by omega) m1 (fun j hj => by
      rcases Nat.lt_or_ge j i with q | q
      · exact Nat.le_trans (h1 j q) m2
      · have e : j = i := by omega
        rw [e]; exact m3) m4
    refine pk_le 8 i (fun h => absurd h (by omega)) (fun _ => ?_)
    by_cases hs : 0 < s i
    · refine bx_hasY h4 (by omega) hs (br_f (by decide) ⟨hin, ?_⟩)
      have := h6 i
      rw [nI_clamp (show i < 2 ^ 31 by omega), h5 i (by omega) hs]
      exact pk_le (s i) M (fun q => nm_r (nI_1 i) (next M hM (Nat.le_refl M) q h2)) (fun q => ⟨hin, nm_e (nm_r (nI_1 i) (next (s i) this (by omega) (Nat.le_refl _) (Or.inr ⟨i, by omega, rfl, hs⟩)))⟩)
    · have e0 : s i = 0 := by omega
      refine bx_hasN h4 (fun k hk e => ?_) (br_t rfl (nm_r (nI_1 i) (next M hM (Nat.le_refl M) (by omega) h2)))
      rw [nI_eq (by omega) (by omega)] at e
      rw [← e]; exact e0
theorem bx_la {post : Int32 → Prop} {s : Nat → Nat} (h4 : ∀ j, j < 32 → bt xP j = (decide (j < 8) && decide (0 < s j))) (h5 : ∀ j, j < 8 → 0 < s j → aS j = nI (s j)) (h6 : ∀ j, s j ≤ 60)
    (K : ∀ M, M ≤ 60 → (∀ j, j < 8 → s j ≤ M) → (M = 0 ∨ ∃ j, j < 8 ∧ s j = M ∧ 0 < M) → post (nI M)) : wpX_largest post (xB, xP, xR, xO, xC, xE, xW, xK, xL, aS, aL, aR, aP, aO, aW, aN) :=
  ⟨9, bx_la4 h4 h5 h6 K 8 0 9 0 rfl (by omega) (by omega) (fun j hj => absurd hj (Nat.not_lt_zero j)) (Or.inl rfl)⟩
theorem bx_sp15 {post : Int32 → SX → Prop} {B m : Nat} {s : Nat → Nat} (h : bd_RX B s xB xP xK xL aS aN) (hm : m ≤ 9)
    (K : ∀ v xR xO xC xE xW aL aR aP aO aW, v ≤ B → (v = 0 ∨ bd_CP B m (v :: (bd_pr s 8).map s) (fun _ => 0)) → (∀ x, v < x → x ≤ B → ¬ bd_CP B m (x :: (bd_pr s 8).map s) (fun _ => 0)) → post (nI v) (xB, xP, xR, xO, xC, xE, xW, xK, xL, aS, aL, aR, aP, aO, aW, aN)) :
    ∀ (d c lo hi n : Nat) (xR xO xC xE xW : Int32) (aL aR aP aO aW : Nat → Int32), c + d = 7 → d < n → lo ≤ hi → hi ≤ B → hi - lo < 2 ^ d → (lo = 0 ∨ bd_CP B m (lo :: (bd_pr s 8).map s) (fun _ => 0)) → (∀ x, hi < x → x ≤ B → ¬ bd_CP B m (x :: (bd_pr s 8).map s) (fun _ => 0)) →
      wX_spare_15 post (nI m) n (nI lo) (nI hi) (nI c) xB xP xR xO xC xE xW xK xL aS aL aR aP aO aW aN := by
  obtain ⟨h1, h2, h3, h4, h5, h6, h7⟩ := h
  subst h1
  have h8 := bd_pr_len s 8
  intro d
  induction d with
  | zero =>
    intro c lo hi n xR xO xC xE xW aL aR aP aO aW hc hn hlh hhB hw hlo hhi
    obtain ⟨n, rfl, _⟩ := bd_fu hn
    have e : lo = hi := by omega
    subst e
    exact pk_le 7 c (fun _ => K lo _ _ _ _ _ _ _ _ _ _ hhB hlo hhi) (fun h => absurd h (by omega))
  | succ d ih =>
    intro c lo hi n xR xO xC xE xW aL aR aP aO aW hc hn hlh hhB hw hlo hhi
    obtain ⟨n, rfl, _⟩ := bd_fu hn
    rw [Nat.pow_succ] at hw
    generalize 2 ^ d = e2 at hw ih
    refine pk_le 7 c (fun h => absurd h (by omega)) (fun _ => pk_le hi lo (fun hle => ?_) (fun hlt => ?_))
    · have e : lo = hi := by omega
      subst e
      exact K lo _ _ _ _ _ _ _ _ _ _ hhB hlo hhi
    · obtain ⟨mid, emid⟩ : ∃ mid, mid = (lo + hi + 1) / 2 := ⟨_, rfl⟩
      refine nm_r (e' := nI mid) (by rw [nI_add, nI_1, pk_shrN (by omega) _ 1 (by decide), emid]) ?_
      refine bx_all h4 h5 (fun j => Nat.le_trans (h6 j) h3) (fun L' a a' hp hA ha => ?_)
      have hl : L'.length = (bd_pr s 8).length := by rw [hp.length_eq, List.length_map]
      have hmem : ∀ w, w ∈ L' → w ≤ B := fun w hw => by
        obtain ⟨j, _, rfl⟩ := List.mem_map.mp (hp.mem_iff.mp hw)
        exact h6 j
      refine bx_want (s := mid) (by omega) (L := L') (fun w hw => by have := hmem w hw; omega) (by omega) rfl hA (fun L2 a2 hp2 hA2 => ?_)
      have hl2 : L2.length = L'.length + 1 := by rw [hp2.length_eq, List.length_cons]
      have hp3 : L2.Perm (mid :: (bd_pr s 8).map s) := hp2.trans (hp.cons mid)
      refine bx_solve (R := B) (o := 0) (D := fun _ => 0) (L := L2) ⟨rfl, rfl, rfl, by omega, by omega, by omega, ha, fun _ _ => rfl, fun _ => Nat.zero_le _, hA2, fun w hw => ?_⟩ (fun m' e5 z5 a5 p5 a6 a7 hop hm' => ?_)
      · rcases List.mem_cons.mp (hp2.mem_iff.mp hw) with q | q
        · omega
        · exact hmem w q
      · have hop2 := bd_Op_perm hp3 hop
        refine pk_lt m m' (fun hmm => ?_) (fun hmm => ?_)
        · refine nm_r (e' := nI (mid - 1)) (pk_sub (a := mid) (b := 1) (by omega)) (nm_r (nI_1 c) (ih (c + 1) lo (mid - 1) n _ _ _ _ _ _ _ _ _ _ (by omega) (by omega) (by omega) (by omega) (by omega) hlo (fun x hx hxB hcp => ?_)))
          have := hop2.2.2 m (Nat.zero_le _) (bd_sp_mono (by omega) hcp)
          omega
        · refine nm_r (nI_1 c) (ih (c + 1) mid hi n _ _ _ _ _ _ _ _ _ _ (by omega) (by omega) (by omega) (by omega) (by omega) (Or.inr ?_) hhi)
          exact bd_CP_ups _ (fun _ _ => Nat.zero_le _) hop2.2.1 m hmm
theorem bx_sf32 {post : Int32 → SX → Prop} {B M q : Nat} {s : Nat → Nat} (h : bd_RX B s xB xP xK xL aS aN) (hq0 : 1 ≤ q) (hq : q ≤ 8) (hM0 : 0 < M) (hMs : ∀ j, j < 8 → s j ≤ M)
    (K : ∀ v xR xO xC xE xW aL aR aP aO aW, bd_CP v q ((bd_pr s 8).map s) (fun _ => 0) → (∀ R, M ≤ R → R < v → ¬ bd_CP R q ((bd_pr s 8).map s) (fun _ => 0)) → post (nI v) (xB, xP, xR, xO, xC, xE, xW, xK, xL, aS, aL, aR, aP, aO, aW, aN)) :
    ∀ (d c lo hi n : Nat) (xR xO xC xE xW : Int32) (aL aR aP aO aW : Nat → Int32), c + d = 10 → d < n → M ≤ lo → lo ≤ hi → hi ≤ 480 → hi - lo < 2 ^ d → bd_CP hi q ((bd_pr s 8).map s) (fun _ => 0) → (∀ R, M ≤ R → R < lo → ¬ bd_CP R q ((bd_pr s 8).map s) (fun _ => 0)) →
      wX_sizeFor_32 post (nI q) n (nI lo) (nI hi) (nI c) xB xP xR xO xC xE xW xK xL aS aL aR aP aO aW aN := by
  obtain ⟨h1, h2, h3, h4, h5, h6, h7⟩ := h
  have h8 := bd_pr_len s 8
  intro d
  induction d with
  | zero =>
    intro c lo hi n xR xO xC xE xW aL aR aP aO aW hc hn hMl hlh hh hw hhi hlo
    obtain ⟨n, rfl, _⟩ := bd_fu hn
    have e : lo = hi := by omega
    subst e
    exact pk_le 10 c (fun _ => K lo _ _ _ _ _ _ _ _ _ _ hhi hlo) (fun h => absurd h (by omega))
  | succ d ih =>
    intro c lo hi n xR xO xC xE xW aL aR aP aO aW hc hn hMl hlh hh hw hhi hlo
    obtain ⟨n, rfl, _⟩ := bd_fu hn
    rw [Nat.pow_succ] at hw
    generalize 2 ^ d = e2 at hw ih
    refine pk_le 10 c (fun h => absurd h (by omega)) (fun _ => pk_le hi lo (fun hle => ?_) (fun hlt => ?_))
    · have e : lo = hi := by omega
      subst e
      exact K lo _ _ _ _ _ _ _ _ _ _ hhi hlo
    · obtain ⟨mid, emid⟩ : ∃ mid, mid = (lo + hi) / 2 := ⟨_, rfl⟩
      refine nm_r (e' := nI mid) (by rw [nI_add, pk_shrN (by omega) _ 1 (by decide), emid]) ?_
      refine bx_all h4 h5 (fun j => Nat.le_trans (h6 j) h3) (fun L' a a' hp hA ha => ?_)
      have hl : L'.length = (bd_pr s 8).length := by rw [hp.length_eq, List.length_map]
      refine bx_solve (R := mid) (o := 0) (D := fun _ => 0) (L := L') ⟨rfl, rfl, rfl, by omega, by omega, by omega, ha, fun _ _ => rfl, fun _ => Nat.zero_le _, hA, fun w hw => ?_⟩ (fun m' e5 z5 a5 p5 a6 a7 hop hm' => ?_)
      · obtain ⟨j, hj, rfl⟩ := List.mem_map.mp (hp.mem_iff.mp hw)
        have := hMs j (bd_pr_mem hj).1
        omega
      · have hop2 := bd_Op_perm hp hop
        refine pk_lt q m' (fun hmm => ?_) (fun hmm => ?_)
        · refine nm_r (nI_1 mid) (nm_r (nI_1 c) (ih (c + 1) (mid + 1) hi n _ _ _ _ _ _ _ _ _ _ (by omega) (by omega) (by omega) (by omega) hh (by omega) hhi (fun R hMR hR hcp => ?_)))
          have := hop2.2.2 q (Nat.zero_le _) (bd_CP_mono (show R ≤ mid by omega) _ (fun _ _ => Nat.le_refl _) hcp)
          omega
        · refine nm_r (nI_1 c) (ih (c + 1) lo mid n _ _ _ _ _ _ _ _ _ _ (by omega) (by omega) hMl (by omega) (by omega) (by omega) ?_ hlo)
          exact bd_CP_ups _ (fun _ _ => Nat.zero_le _) hop2.2.1 q hmm
end
end
section
/-! ===== what is owed: the relation and the small methods ===== -/
def bd_RY (B : Nat) (s : Nat → Nat) (yR : Int32) (bS : Nat → Int32) : Prop := yR = nI B ∧ ∀ j, j < 8 → bS j = nI (s j)
/-- some bin size B and sizes s (0: absent) are in both objects' fields; if the component says packed, its bins are the first best packing -/
def i_Rel (_ : Nat) (u : SX) (v : SY) : Prop := ∃ (B : Nat) (s : Nat → Nat), (match u with | (xB, xP, xR, xO, xC, xE, xW, xK, xL, aS, aL, aR, aP, aO, aW, aN) => bd_RX B s xB xP xK xL aS aN) ∧ (match v with | (yR, yN, bS, bI, bB) => bd_RY B s yR bS)
theorem i_up {k : Nat} {u : SX} {v : SY} (h : i_Rel k u v) : i_Rel (k + 3) u v := h
theorem bd_pres (s : Nat → Nat) (x : Int32) : (∃ i, i < 8 ∧ x = nI i ∧ 0 < s i) ∨ (∀ i, i < 8 → x = nI i → s i = 0) := by
  by_cases h : ∃ i, i < 8 ∧ x = nI i ∧ 0 < s i
  · exact Or.inl h
  · refine Or.inr (fun i hi e => ?_)
    by_cases z : s i = 0
    · exact z
    · exact absurd ⟨i, hi, e, by omega⟩ h
theorem bd_pos {x : Int32} (h : ¬ x < 1) : ∃ w : Nat, 1 ≤ w ∧ w < 2 ^ 31 ∧ x = nI w := by
  obtain ⟨w, hw, rfl⟩ := nI_of (x := x) (fun z => h (Int32.lt_trans z (by decide)))
  refine ⟨w, ?_, hw, rfl⟩
  by_cases q : 1 ≤ w
  · exact q
  · exact absurd (nI_lt (a := w) (b := 1) (by omega) (by decide)) h
def bd_st (i w : Nat) (s : Nat → Nat) : Nat → Nat := fun j => if j = i then w else s j
theorem bd_st_S {s : Nat → Nat} {a : Nat → Int32} {i w : Nat} (h : ∀ j, j < 8 → a j = nI (s j)) : ∀ j, j < 8 → upd a i (nI w) j = nI (bd_st i w s j) := by
  intro j hj
  unfold bd_st
  by_cases e : j = i
  · subst e; rw [pk_us, if_pos rfl]
  · rw [pk_un e, if_neg e]; exact h j hj
theorem bd_st_X {s : Nat → Nat} {a : Nat → Int32} {i w : Nat} (h : ∀ j, j < 8 → 0 < s j → a j = nI (s j)) : ∀ j, j < 8 → 0 < bd_st i w s j → upd a i (nI w) j = nI (bd_st i w s j) := by
  intro j hj
  unfold bd_st
  by_cases e : j = i
  · subst e; rw [pk_us, if_pos rfl]; exact fun _ => rfl
  · rw [pk_un e, if_neg e]; exact h j hj
theorem bd_st_le {s : Nat → Nat} {i w B : Nat} (h : ∀ j, s j ≤ B) (hw : w ≤ B) : ∀ j, bd_st i w s j ≤ B := by
  intro j
  unfold bd_st
  have := h j
  split <;> omega
theorem i_vc0 (k0 : Int32) : wpX_init (fun u => wpY_init (fun v => i_Rel 1 u v) k0) k0 := by
  have key : ∀ B : Nat, 1 ≤ B → B ≤ 60 → i_Rel 1 (nI B, 0, 0, 0, 0, 0, 0, 0, 0, (fun _ => 0), (fun _ => 0), (fun _ => 0), (fun _ => 0), (fun _ => 0), (fun _ => 0), (fun _ => 0)) (nI B, 0, (fun _ => 0), (fun _ => 0), (fun _ => 0)) := by
    intro B h1 h2
    refine ⟨B, fun _ => 0, ⟨rfl, h1, h2, fun j _ => ?_, fun j _ h => absurd h (Nat.lt_irrefl 0), fun _ => Nat.zero_le _, fun h => absurd rfl h⟩, rfl, fun j _ => rfl⟩
    rw [b_0]; simp
  refine br_c (fun c1 => br_c (fun c2 => br_t c1 (br_t c2 ?_)) (fun c2 => br_t c1 (br_f c2 (key 60 (by omega) (by omega))))) (fun c1 => br_f c1 (key 1 (by omega) (by omega)))
  obtain ⟨w, h1, h2, rfl⟩ := bd_pos (Int32.not_lt.mpr c1)
  refine key w h1 ?_
  have := (nI_leI (a := w) (b := 60) h2 (by decide)).mp c2
  exact this
section
variable {xB xP xR xO xC xE xW xK xL : Int32} {aS aL aR aP aO aW aN : Nat → Int32}
theorem bx_add17 {post : Int32 → SX → Prop} {s : Nat → Nat} {w : Nat} (hw : w < 64) (h4 : ∀ j, j < 32 → bt xP j = (decide (j < 8) && decide (0 < s j)))
    (K1 : ∀ i, i < 8 → s i = 0 → (∀ j, j < i → 0 < s j) → post (nI i) (xB, xP ||| ((1 : Int32) <<< (nI i &&& 31)), xR, xO, xC, xE, xW, 0, xL, upd aS i (nI w), aL, aR, aP, aO, aW, aN)) (K2 : (∀ j, j < 8 → 0 < s j) → post (-2) (xB, xP, xR, xO, xC, xE, xW, xK, xL, aS, aL, aR, aP, aO, aW, aN)) :
    ∀ (d i n : Nat), i + d = 8 → d < n → (∀ j, j < i → 0 < s j) → wX_add_17 post (nI w) xB xP xR xO xC xE xW xK xL aS aL aR aP aO aW aN n (nI i) := by
  intro d
  induction d with
  | zero =>
    intro i n hi hn hj
    obtain ⟨n, rfl, _⟩ := bd_fu hn
    have e : i = 8 := by omega
    subst e
    exact pk_le 8 8 (fun _ => K2 hj) (fun h => absurd h (by omega))
  | succ d ih =>
    intro i n hi hn hj
    obtain ⟨n, rfl, _⟩ := bd_fu hn
    refine pk_le 8 i (fun h => absurd h (by omega)) (fun _ => ?_)
    by_cases hs : 0 < s i
    · refine bx_hasY h4 (by omega) hs (br_f (by decide) (nm_r (nI_1 i) (ih (i + 1) n (by omega) (by omega) (fun j h => ?_))))
      rcases Nat.lt_or_ge j i with q | q
      · exact hj j q
      · have e : j = i := by omega
        rw [e]; exact hs
    · refine bx_hasN h4 (fun k hk e => ?_) (br_t rfl (nm_e ⟨vp_in_nI (by omega) (by omega), nm_r (e' := upd aS i (nI w)) (by rw [nI_clamp (by omega), bd_by hw]) (K1 i (by omega) (by omega) hj)⟩))
      rw [nI_eq (by omega) (by omega)] at e
      rw [← e]; omega
end
section
variable {yR yN : Int32} {bS bI bB : Nat → Int32}
theorem by_add17 {post : Int32 → SY → Prop} {s : Nat → Nat} {w : Nat} (hS : ∀ j, j < 8 → bS j = nI (s j)) (hs : ∀ j, s j ≤ 60)
    {t : Nat} (ht : t ≤ 8) (hp : ∀ j, j < t → 0 < s j) (K : (t = 8 → post (-2) (yR, yN, bS, bI, bB)) ∧ (t < 8 → s t = 0 ∧ post (nI t) (yR, yN, upd bS t (nI w), bI, bB))) :
    ∀ (d i n : Nat), i + d = t → d < n → wY_add_17 post (nI w) yR yN bS bI bB n (nI i) := by
  intro d
  induction d with
  | zero =>
    intro i n hi hn
    obtain ⟨n, rfl, _⟩ := bd_fu hn
    have e : i = t := by omega
    subst e
    refine pk_le 8 i (fun h => K.1 (by omega)) (fun h => ?_)
    obtain ⟨k1, k2⟩ := K.2 h
    refine ⟨vp_in_nI h (by omega), ?_⟩
    rw [nI_clamp (by omega), hS i h, k1]
    exact br_t rfl ⟨vp_in_nI h (by omega), nm_e k2⟩
  | succ d ih =>
    intro i n hi hn
    obtain ⟨n, rfl, _⟩ := bd_fu hn
    have h1 := hp i (by omega)
    have h2 := hs i
    refine pk_le 8 i (fun h => absurd h (by omega)) (fun _ => ⟨vp_in_nI (by omega) (by omega), ?_⟩)
    rw [nI_clamp (by omega), hS i (by omega)]
    exact br_f (nI_ne0 h1 (by omega)) (nm_r (nI_1 i) (ih (i + 1) n (by omega) (by omega)))
theorem by_ss15 {post : Int32 → SY → Prop} {s : Nat → Nat} {w : Nat} (hw : w ≤ 60) (hS : ∀ j, j < 8 → bS j = nI (s j)) (hs : ∀ j, s j ≤ 60) (K1 : (∀ j, j < 8 → s j ≤ w) → post 1 (nI w, yN, bS, bI, bB)) (K0 : (∃ j, j < 8 ∧ w < s j) → post 0 (yR, yN, bS, bI, bB)) :
    ∀ (d i n : Nat), i + d = 8 → d < n → (∀ j, j < i → s j ≤ w) → wY_setSize_15 post (nI w) yR yN bS bI bB n (nI i) := by
  intro d
  induction d with
  | zero =>
    intro i n hi hn hj
    obtain ⟨n, rfl, _⟩ := bd_fu hn
    have e : i = 8 := by omega
    subst e
    exact pk_le 8 8 (fun _ => K1 hj) (fun h => absurd h (by omega))
  | succ d ih =>
    intro i n hi hn hj
    obtain ⟨n, rfl, _⟩ := bd_fu hn
    have h2 := hs i
    refine pk_le 8 i (fun h => absurd h (by omega)) (fun _ => ⟨vp_in_nI (by omega) (by omega), ?_⟩)
    rw [nI_clamp (by omega), hS i (by omega)]
    refine pk_le (s i) w (fun h => nm_r (nI_1 i) (ih (i + 1) n (by omega) (by omega) (fun j h' => ?_))) (fun h => K0 ⟨i, by omega, h⟩)
    rcases Nat.lt_or_ge j i with q | q
    · exact hj j q
    · have e : j = i := by omega
      rw [e]; exact h
theorem by_it4 {post : Int32 → Prop} {s : Nat → Nat} (hS : ∀ j, j < 8 → bS j = nI (s j)) (hs : ∀ j, s j ≤ 60) (K : ∀ x : Int32, (∀ j, j < 32 → bt x j = (decide (j < 8) && decide (0 < s j))) → post x) :
    ∀ (d i n : Nat) (x : Int32), i + d = 8 → d < n → (∀ j, j < 32 → bt x j = (decide (j < i) && decide (0 < s j))) → wY_items_4 post yR yN bS bI bB n x (nI i) := by
  intro d
  induction d with
  | zero =>
    intro i n x hi hn hx
    obtain ⟨n, rfl, _⟩ := bd_fu hn
    have e : i = 8 := by omega
    subst e
    exact pk_le 8 8 (fun _ => K x hx) (fun h => absurd h (by omega))
  | succ d ih =>
    intro i n x hi hn hx
    obtain ⟨n, rfl, _⟩ := bd_fu hn
    refine pk_le 8 i (fun h => absurd h (by omega)) (fun _ => by_is hS hs (by omega) (fun hp => ?_) (fun h0 => ?_))
    · refine br_f (by decide) (fun x11 e11 => nm_r (nI_1 i) (ih (i + 1) n x11 (by omega) (by omega) (fun j hj => ?_)))
      rw [e11, b_or, hx j hj, bd_one i (by omega) hj]
      by_cases h1 : j = i
      · subst h1; simp [hp]
      · have h2 : (j < i + 1) = (j < i) := by apply propext; omega
        simp [h1, h2]
    · refine br_t rfl (fun x9 e9 => nm_r (nI_1 i) (ih (i + 1) n x9 (by omega) (by omega) (fun j hj => ?_)))
      rw [e9, b_or, hx j hj, b_0]
      by_cases h1 : j = i
      · subst h1; simp [h0]
      · have h2 : (j < i + 1) = (j < i) := by apply propext; omega
        simp [h2]
end
theorem i_vc_add {k : Nat} {u : SX} {v : SY} (I : i_Rel k u v) (hk : k + 3 ≤ 1537) (v1 : Int32) : wpX_add (fun r u' => wpY_add (fun r' v' => r' = r ∧ i_Rel (k + 3) u' v') v v1) u v1 := by
  obtain ⟨xB, xP, xR, xO, xC, xE, xW, xK, xL, aS, aL, aR, aP, aO, aW, aN⟩ := u
  obtain ⟨yR, yN, bS, bI, bB⟩ := v
  obtain ⟨B, s, h, hY⟩ := I
  have h0 : bd_RX B s xB xP xK xL aS aN := h
  have hY0 : bd_RY B s yR bS := hY
  obtain ⟨h1, h2, h3, h4, h5, h6, h7⟩ := h0
  obtain ⟨g1, g2⟩ := hY0
  have h60 : ∀ j, s j ≤ 60 := fun j => Nat.le_trans (h6 j) h3
  have same : i_Rel (k + 3) (xB, xP, xR, xO, xC, xE, xW, xK, xL, aS, aL, aR, aP, aO, aW, aN) (yR, yN, bS, bI, bB) := ⟨B, s, h, hY⟩
  by_cases c1 : v1 < 1
  · exact br_t c1 (br_t c1 ⟨rfl, same⟩)
  · obtain ⟨w, w1, w2, rfl⟩ := bd_pos c1
    refine br_f c1 (pk_le w B (fun hwB => ⟨9, ?_⟩) (fun hwB => br_f c1 (pk_le w B (fun h => absurd h (by omega)) (fun _ => ⟨rfl, same⟩) rfl g1)) rfl h1)
    refine bx_add17 (s := s) (w := w) (by omega) h4 (fun i i1 i2 i3 => ?_) (fun hall => ?_) 8 0 9 rfl (by omega) (fun j hj => absurd hj (Nat.not_lt_zero j))
    · refine br_f c1 (pk_le w B (fun _ => ⟨9, ?_⟩) (fun h => absurd h (by omega)) rfl g1)
      refine by_add17 (s := s) (w := w) g2 h60 (t := i) (by omega) i3 ⟨fun z => absurd z (by omega), fun _ => ⟨i2, rfl, B, bd_st i w s, ⟨h1, h2, h3, fun j hj => ?_, bd_st_X h5, bd_st_le h6 hwB, fun z => absurd rfl z⟩, g1, bd_st_S g2⟩⟩ i 0 9 (by omega) (by omega)
      rw [b_or, h4 j hj, bd_one i (by omega) hj]
      unfold bd_st
      by_cases e : j = i
      · subst e; simp [i1, w1]; omega
      · simp [e]
    · refine br_f c1 (pk_le w B (fun _ => ⟨9, ?_⟩) (fun h => absurd h (by omega)) rfl g1)
      exact by_add17 (s := s) (w := w) g2 h60 (t := 8) (Nat.le_refl 8) hall ⟨fun _ => ⟨rfl, same⟩, fun z => absurd z (by omega)⟩ 8 0 9 (by omega) (by omega)
theorem i_vc_remove {k : Nat} {u : SX} {v : SY} (I : i_Rel k u v) (hk : k + 3 ≤ 1537) (v1 : Int32) : wpX_remove (fun r u' => wpY_remove (fun r' v' => r' = r ∧ i_Rel (k + 3) u' v') v v1) u v1 := by
  obtain ⟨xB, xP, xR, xO, xC, xE, xW, xK, xL, aS, aL, aR, aP, aO, aW, aN⟩ := u
  obtain ⟨yR, yN, bS, bI, bB⟩ := v
  obtain ⟨B, s, h, hY⟩ := I
  have h0 : bd_RX B s xB xP xK xL aS aN := h
  have hY0 : bd_RY B s yR bS := hY
  obtain ⟨h1, h2, h3, h4, h5, h6, h7⟩ := h0
  obtain ⟨g1, g2⟩ := hY0
  have h60 : ∀ j, s j ≤ 60 := fun j => Nat.le_trans (h6 j) h3
  have same : i_Rel (k + 3) (xB, xP, xR, xO, xC, xE, xW, xK, xL, aS, aL, aR, aP, aO, aW, aN) (yR, yN, bS, bI, bB) := ⟨B, s, h, hY⟩
  unfold wpX_remove wpY_remove
  rcases bd_pres s v1 with ⟨i, hi, rfl, hs⟩ | hn
  · refine bx_hasY h4 hi hs (br_f (by decide) (nm_e (by_is g2 h60 hi (fun _ => br_f (by decide) ⟨vp_in_nI hi (by omega), nm_r (e' := upd bS i (nI 0)) (by rw [nI_clamp (by omega)]; rfl) ⟨rfl, B, bd_st i 0 s, ⟨h1, h2, h3, fun j hj => ?_, fun j hj hp => ?_, bd_st_le h6 (by omega), fun z => absurd rfl z⟩, g1, bd_st_S g2⟩⟩) (fun z => absurd z (by omega)))))
    · rw [b_and, h4 j hj, bd_not i (by omega) hj]
      unfold bd_st
      by_cases e : j = i
      · simp [e]
      · simp [e]
    · unfold bd_st at hp ⊢
      by_cases e : j = i
      · rw [if_pos e] at hp; omega
      · rw [if_neg e] at hp ⊢; exact h5 j hj hp
  · exact bx_hasN h4 hn (br_t rfl (by_isN g2 h60 hn (br_t rfl ⟨rfl, same⟩)))
theorem i_vc_resize {k : Nat} {u : SX} {v : SY} (I : i_Rel k u v) (hk : k + 3 ≤ 1537) (v1 : Int32) (v2 : Int32) : wpX_resize (fun r u' => wpY_resize (fun r' v' => r' = r ∧ i_Rel (k + 3) u' v') v v1 v2) u v1 v2 := by
  obtain ⟨xB, xP, xR, xO, xC, xE, xW, xK, xL, aS, aL, aR, aP, aO, aW, aN⟩ := u
  obtain ⟨yR, yN, bS, bI, bB⟩ := v
  obtain ⟨B, s, h, hY⟩ := I
  have h0 : bd_RX B s xB xP xK xL aS aN := h
  have hY0 : bd_RY B s yR bS := hY
  obtain ⟨h1, h2, h3, h4, h5, h6, h7⟩ := h0
  obtain ⟨g1, g2⟩ := hY0
  have h60 : ∀ j, s j ≤ 60 := fun j => Nat.le_trans (h6 j) h3
  have same : i_Rel (k + 3) (xB, xP, xR, xO, xC, xE, xW, xK, xL, aS, aL, aR, aP, aO, aW, aN) (yR, yN, bS, bI, bB) := ⟨B, s, h, hY⟩
  unfold wpX_resize wpY_resize
  rcases bd_pres s v1 with ⟨i, hi, rfl, hs⟩ | hn
  · refine bx_hasY h4 hi hs (br_f (by decide) ?_)
    have hin : vp_in (nI i) 8 := vp_in_nI hi (by omega)
    by_cases c1 : v2 < 1
    · exact br_t c1 (by_is g2 h60 hi (fun _ => br_f (by decide) (br_t c1 ⟨rfl, same⟩)) (fun z => absurd z (by omega)))
    · obtain ⟨w, w1, w2, rfl⟩ := bd_pos c1
      refine br_f c1 (pk_le w B (fun hwB => ⟨hin, nm_r (e' := upd aS i (nI w)) (by rw [nI_clamp (by omega), bd_by (by omega)]) ?_⟩) (fun hwB => ?_) rfl h1)
      · refine by_is g2 h60 hi (fun _ => br_f (by decide) (br_f c1 (pk_le w B (fun _ => ⟨hin, nm_r (e' := upd bS i (nI w)) (by rw [nI_clamp (by omega)]) ⟨rfl, B, bd_st i w s, ⟨h1, h2, h3, fun j hj => ?_, bd_st_X h5, bd_st_le h6 hwB, fun z => absurd rfl z⟩, g1, bd_st_S g2⟩⟩) (fun z => absurd z (by omega)) rfl g1))) (fun z => absurd z (by omega))
        rw [h4 j hj]
        unfold bd_st
        by_cases e : j = i
        · subst e
          have hw0 : 0 < w := w1
          simp [hs, hw0]
        · simp [e]
      · exact by_is g2 h60 hi (fun _ => br_f (by decide) (br_f c1 (pk_le w B (fun z => absurd z (by omega)) (fun _ => ⟨rfl, same⟩) rfl g1))) (fun z => absurd z (by omega))
  · exact bx_hasN h4 hn (br_t rfl (by_isN g2 h60 hn (br_t rfl ⟨rfl, same⟩)))
theorem i_vc_setSize {k : Nat} {u : SX} {v : SY} (I : i_Rel k u v) (hk : k + 3 ≤ 1537) (v1 : Int32) : wpX_setSize (fun r u' => wpY_setSize (fun r' v' => r' = r ∧ i_Rel (k + 3) u' v') v v1) u v1 := by
  obtain ⟨xB, xP, xR, xO, xC, xE, xW, xK, xL, aS, aL, aR, aP, aO, aW, aN⟩ := u
  obtain ⟨yR, yN, bS, bI, bB⟩ := v
  obtain ⟨B, s, h, hY⟩ := I
  have h0 : bd_RX B s xB xP xK xL aS aN := h
  have hY0 : bd_RY B s yR bS := hY
  obtain ⟨h1, h2, h3, h4, h5, h6, h7⟩ := h0
  obtain ⟨g1, g2⟩ := hY0
  have h60 : ∀ j, s j ≤ 60 := fun j => Nat.le_trans (h6 j) h3
  have same : i_Rel (k + 3) (xB, xP, xR, xO, xC, xE, xW, xK, xL, aS, aL, aR, aP, aO, aW, aN) (yR, yN, bS, bI, bB) := ⟨B, s, h, hY⟩
  by_cases c1 : v1 < 1
  · exact br_t c1 (br_t c1 ⟨rfl, same⟩)
  · obtain ⟨w, w1, w2, rfl⟩ := bd_pos c1
    refine br_f c1 (pk_lt 60 w (fun hw => br_f c1 (pk_le w 60 (fun z => absurd z (by omega)) (fun _ => ⟨rfl, same⟩))) (fun hw => ?_))
    refine bx_la h4 h5 h60 (fun M m1 m2 m3 => ?_)
    have yes : (∀ j, j < 8 → s j ≤ w) → i_Rel (k + 3) (nI w, xP, xR, xO, xC, xE, xW, 0, xL, aS, aL, aR, aP, aO, aW, aN) (nI w, yN, bS, bI, bB) := fun hall => by
      refine ⟨w, fun j => if j < 8 then s j else 0, ⟨rfl, w1, hw, fun j hj => ?_, fun j hj hp => ?_, fun j => ?_, fun z => absurd rfl z⟩, rfl, fun j hj => ?_⟩
      · rw [h4 j hj]
        by_cases e : j < 8
        · simp [e]
        · simp [e]
      · dsimp only at hp ⊢
        rw [if_pos hj] at hp ⊢; exact h5 j hj hp
      · dsimp only
        by_cases e : j < 8
        · rw [if_pos e]; exact hall j e
        · rw [if_neg e]; omega
      · dsimp only
        rw [if_pos hj]; exact g2 j hj
    refine pk_le M w (fun hMw => ?_) (fun hMw => ?_)
    · refine br_f c1 (pk_le w 60 (fun _ => ⟨9, by_ss15 hw g2 h60 (fun hall => ⟨rfl, yes hall⟩) (fun ⟨j, j1, j2⟩ => ?_) 8 0 9 rfl (by omega) (fun j hj => absurd hj (Nat.not_lt_zero j))⟩) (fun z => absurd z (by omega)))
      have := m2 j j1
      omega
    · refine br_f c1 (pk_le w 60 (fun _ => ⟨9, by_ss15 hw g2 h60 (fun hall => ?_) (fun _ => ⟨rfl, same⟩) 8 0 9 rfl (by omega) (fun j hj => absurd hj (Nat.not_lt_zero j))⟩) (fun z => absurd z (by omega)))
      rcases m3 with e | ⟨j, j1, j2, _⟩
      · omega
      · have := hall j j1
        omega
theorem i_vc_size {k : Nat} {u : SX} {v : SY} (I : i_Rel k u v) (hk : k + 3 ≤ 1537) : wpX_size (fun r => wpY_size (fun r' => r' = r ∧ i_Rel (k + 3) u v) v) u := by
  obtain ⟨xB, xP, xR, xO, xC, xE, xW, xK, xL, aS, aL, aR, aP, aO, aW, aN⟩ := u
  obtain ⟨yR, yN, bS, bI, bB⟩ := v
  obtain ⟨B, s, h, hY⟩ := I
  have h0 : bd_RX B s xB xP xK xL aS aN := h
  have hY0 : bd_RY B s yR bS := hY
  exact ⟨hY0.1.trans h0.1.symm, B, s, h, hY⟩
theorem i_vc_items {k : Nat} {u : SX} {v : SY} (I : i_Rel k u v) (hk : k + 3 ≤ 1537) : wpX_items (fun r => wpY_items (fun r' => r' = r ∧ i_Rel (k + 3) u v) v) u := by
  obtain ⟨xB, xP, xR, xO, xC, xE, xW, xK, xL, aS, aL, aR, aP, aO, aW, aN⟩ := u
  obtain ⟨yR, yN, bS, bI, bB⟩ := v
  obtain ⟨B, s, h, hY⟩ := I
  have h0 : bd_RX B s xB xP xK xL aS aN := h
  have hY0 : bd_RY B s yR bS := hY
  obtain ⟨h1, h2, h3, h4, h5, h6, h7⟩ := h0
  have h60 : ∀ j, s j ≤ 60 := fun j => Nat.le_trans (h6 j) h3
  refine ⟨9, by_it4 (s := s) hY0.2 h60 (fun x hx => ⟨b_ext (fun j hj => by rw [hx j hj, h4 j hj]), B, s, h, hY⟩) 8 0 9 0 rfl (by omega) (fun j _ => ?_)⟩
  rw [b_0]; simp
theorem i_vc_sizeOf {k : Nat} {u : SX} {v : SY} (I : i_Rel k u v) (hk : k + 3 ≤ 1537) (v1 : Int32) : wpX_sizeOf (fun r => wpY_sizeOf (fun r' => r' = r ∧ i_Rel (k + 3) u v) v v1) u v1 := by
  obtain ⟨xB, xP, xR, xO, xC, xE, xW, xK, xL, aS, aL, aR, aP, aO, aW, aN⟩ := u
  obtain ⟨yR, yN, bS, bI, bB⟩ := v
  obtain ⟨B, s, h, hY⟩ := I
  have h0 : bd_RX B s xB xP xK xL aS aN := h
  have hY0 : bd_RY B s yR bS := hY
  obtain ⟨h1, h2, h3, h4, h5, h6, h7⟩ := h0
  have h60 : ∀ j, s j ≤ 60 := fun j => Nat.le_trans (h6 j) h3
  have same : i_Rel (k + 3) (xB, xP, xR, xO, xC, xE, xW, xK, xL, aS, aL, aR, aP, aO, aW, aN) (yR, yN, bS, bI, bB) := ⟨B, s, h, hY⟩
  unfold wpX_sizeOf wpY_sizeOf
  rcases bd_pres s v1 with ⟨i, hi, rfl, hs⟩ | hn
  · have hin : vp_in (nI i) 8 := vp_in_nI hi (by omega)
    refine bx_hasY h4 hi hs (br_f (by decide) ⟨hin, by_is hY0.2 h60 hi (fun _ => br_f (by decide) ⟨hin, ?_, same⟩) (fun z => absurd z (by omega))⟩)
    rw [nI_clamp (by omega), hY0.2 i hi, h5 i hi hs]
  · exact bx_hasN h4 hn (br_t rfl (by_isN hY0.2 h60 hn (br_t rfl ⟨rfl, same⟩)))
end
section
/-! ===== what is owed: the questions ===== -/
theorem i_vc_least {k : Nat} {u : SX} {v : SY} (I : i_Rel k u v) (hk : k + 3 ≤ 1537) : wpX_least (fun r u' => wpY_least (fun r' v' => r' = r ∧ i_Rel (k + 3) u' v') v) u := by
  obtain ⟨xB, xP, xR, xO, xC, xE, xW, xK, xL, aS, aL, aR, aP, aO, aW, aN⟩ := u
  obtain ⟨yR, yN, bS, bI, bB⟩ := v
  obtain ⟨B, s, h, hY⟩ := I
  have h0 : bd_RX B s xB xP xK xL aS aN := h
  have hY0 : bd_RY B s yR bS := hY
  have h3 := h0.2.2.1
  have h60 : ∀ j, s j ≤ 60 := fun j => Nat.le_trans (h0.2.2.2.2.2.1 j) h3
  unfold wpX_least
  refine bx_pack h0 (fun xR xO xC xE xW xK xL aL aR aP aO aW aN hr hp => ?_)
  obtain ⟨m, F, m1, m2, m3, m4, m5⟩ := hp
  refine by_least (s := s) hY0.1 (by omega) hY0.2 h60 (fun m' a b hL hA => ⟨?_, B, s, hr, hY0⟩)
  rw [m3, bd_Lst_Op hL m2]
theorem i_vc_binOf {k : Nat} {u : SX} {v : SY} (I : i_Rel k u v) (hk : k + 3 ≤ 1537) (v1 : Int32) : wpX_binOf (fun r u' => wpY_binOf (fun r' v' => r' = r ∧ i_Rel (k + 3) u' v') v v1) u v1 := by
  obtain ⟨xB, xP, xR, xO, xC, xE, xW, xK, xL, aS, aL, aR, aP, aO, aW, aN⟩ := u
  obtain ⟨yR, yN, bS, bI, bB⟩ := v
  obtain ⟨B, s, h, hY⟩ := I
  have h0 : bd_RX B s xB xP xK xL aS aN := h
  have hY0 : bd_RY B s yR bS := hY
  have h3 := h0.2.2.1
  have h4 := h0.2.2.2.1
  have h60 : ∀ j, s j ≤ 60 := fun j => Nat.le_trans (h0.2.2.2.2.2.1 j) h3
  unfold wpX_binOf
  rcases bd_pres s v1 with ⟨i, hi, rfl, hs⟩ | hn
  · refine bx_hasY h4 hi hs (br_f (by decide) (bx_pack h0 (fun xR xO xC xE xW xK xL aL aR aP aO aW aN hr hp => ⟨vp_in_nI hi (by omega), ?_⟩)))
    obtain ⟨m, F, m1, m2, m3, m4, m5⟩ := hp
    refine by_binOf (s := s) (y0 := (bd_pr s 8).map F) hY0.1 (by omega) hY0.2 h60 hi hs (fun m' hL => ?_) (fun n a b => ⟨?_, B, s, hr, hY0⟩)
    · rw [bd_Lst_Op hL m2]; exact m5
    · rw [nI_clamp (by omega), m4 i hi hs, bd_rk_get hi hs]
  · exact bx_hasN h4 hn (br_t rfl (by_binOfN (s := s) hY0.1 (by omega) hY0.2 h60 hn (fun n a b => ⟨rfl, B, s, h, hY0⟩)))
theorem i_vc_leastWithout {k : Nat} {u : SX} {v : SY} (I : i_Rel k u v) (hk : k + 3 ≤ 1537) (v1 : Int32) : wpX_leastWithout (fun r u' => wpY_leastWithout (fun r' v' => r' = r ∧ i_Rel (k + 3) u' v') v v1) u v1 := by
  obtain ⟨xB, xP, xR, xO, xC, xE, xW, xK, xL, aS, aL, aR, aP, aO, aW, aN⟩ := u
  obtain ⟨yR, yN, bS, bI, bB⟩ := v
  obtain ⟨B, s, h, hY⟩ := I
  have h0 : bd_RX B s xB xP xK xL aS aN := h
  have hY0 : bd_RY B s yR bS := hY
  have h00 := h0
  obtain ⟨h1, h2, h3, h4, h5, h6, h7⟩ := h0
  have h60 : ∀ j, s j ≤ 60 := fun j => Nat.le_trans (h6 j) h3
  unfold wpX_leastWithout
  rcases bd_pres s v1 with ⟨i, hi, rfl, hs⟩ | hn
  · refine bx_hasY h4 hi hs (br_f (by decide) (bx_ask (fun a ha => ?_)))
    refine bx_wantAll (t := bd_rm i s) (fun j hj => ?_) rfl (fun L' a' hp hA => ?_)
    · rw [b_and, h4 j (by omega), bd_not i (by omega) (by omega : j < 32)]
      unfold bd_rm
      by_cases e : j = i
      · exact Or.inl ⟨by simp [e], if_pos e⟩
      · rw [if_neg e]
        by_cases q : 0 < s j
        · have := h60 j
          exact Or.inr ⟨by simp [e, q, hj], h5 j hj q, q, by omega⟩
        · exact Or.inl ⟨by simp [q], by omega⟩
    · have hrm : ∀ j, bd_rm i s j ≤ B := fun j => by
        unfold bd_rm
        have := h6 j
        split <;> omega
      have hp2 := hp.trans (bd_it_pr (bd_rm i s) 8)
      rw [h1] at h h00 ⊢
      refine bx_solve (bd_Qall (R := B) (by omega) (by omega) hrm hp2 hA ha) (fun m e z a1 p a2 a3 hop hm => ?_)
      refine by_without (s := s) hY0.1 (by omega) hY0.2 h60 hi hs (fun m' n S a b hL hS => ⟨?_, B, s, h, hY0.1, hS⟩)
      rw [bd_Lst_Op hL (bd_Op_perm hp2 hop)]
  · exact bx_hasN h4 hn (br_t rfl (by_withoutN (s := s) hY0.2 h60 hn ⟨rfl, B, s, h, hY0⟩))
theorem i_vc_spare {k : Nat} {u : SX} {v : SY} (I : i_Rel k u v) (hk : k + 3 ≤ 1537) : wpX_spare (fun r u' => wpY_spare (fun r' v' => r' = r ∧ i_Rel (k + 3) u' v') v) u := by
  obtain ⟨xB, xP, xR, xO, xC, xE, xW, xK, xL, aS, aL, aR, aP, aO, aW, aN⟩ := u
  obtain ⟨yR, yN, bS, bI, bB⟩ := v
  obtain ⟨B, s, h, hY⟩ := I
  have h0 : bd_RX B s xB xP xK xL aS aN := h
  have hY0 : bd_RY B s yR bS := hY
  have h3 := h0.2.2.1
  have h60 : ∀ j, s j ≤ 60 := fun j => Nat.le_trans (h0.2.2.2.2.2.1 j) h3
  have hB := h0.1
  unfold wpX_spare wpX_least
  refine bx_pack h0 (fun xR xO xC xE xW xK xL aL aR aP aO aW aN hr hp => ?_)
  obtain ⟨m, F, m1, m2, m3, m4, m5⟩ := hp
  refine ⟨8, ?_⟩
  rw [m3] at hr ⊢
  have key := bx_sp15 (post := fun r u' => wpY_spare (fun r' v' => r' = r ∧ i_Rel (k + 3) u' v') (yR, yN, bS, bI, bB)) (m := m) hr m1 (fun v xR xO xC xE xW aL aR aP aO aW v1 v2 v3 => by
    refine by_spare (s := s) hY0.1 (by omega) hY0.2 h60 (fun m' v' n a b hL g0 g1 g2 => ⟨?_, B, s, hr, hY0⟩)
    have e := bd_Lst_Op hL m2
    subst e
    rw [bd_sp_eq m2 v2 v3 g0 g1 g2]) 7 0 0 B 8 xR xO xC xE xW aL aR aP aO aW rfl (by omega) (by omega) (Nat.le_refl B) (by omega) (Or.inl rfl) (fun x hx hxB => absurd hx (by omega))
  rw [← hB] at key
  exact key
theorem i_vc_sizeFor {k : Nat} {u : SX} {v : SY} (I : i_Rel k u v) (hk : k + 3 ≤ 1537) (v1 : Int32) : wpX_sizeFor (fun r u' => wpY_sizeFor (fun r' v' => r' = r ∧ i_Rel (k + 3) u' v') v v1) u v1 := by
  obtain ⟨xB, xP, xR, xO, xC, xE, xW, xK, xL, aS, aL, aR, aP, aO, aW, aN⟩ := u
  obtain ⟨yR, yN, bS, bI, bB⟩ := v
  obtain ⟨B, s, h, hY⟩ := I
  have h0 : bd_RX B s xB xP xK xL aS aN := h
  have hY0 : bd_RY B s yR bS := hY
  have h00 := h0
  obtain ⟨h1, h2, h3, h4, h5, h6, h7⟩ := h0
  have h60 : ∀ j, s j ≤ 60 := fun j => Nat.le_trans (h6 j) h3
  have none : ∀ x : Int32, (x < 1 ∨ 8 < x ∨ (bd_pr s 8).length = 0) → wpY_sizeFor (fun r' v' => r' = -1 ∧ i_Rel (k + 3) (xB, xP, xR, xO, xC, xE, xW, xK, xL, aS, aL, aR, aP, aO, aW, aN) v') (yR, yN, bS, bI, bB) x := fun x hx =>
    by_sizeForN (s := s) hY0.2 h60 hx (fun n a b => ⟨rfl, B, s, h, hY0⟩)
  by_cases c1 : v1 < 1
  · exact br_t c1 (none v1 (Or.inl c1))
  · by_cases c2 : 8 < v1
    · exact br_f c1 (br_t c2 (none v1 (Or.inr (Or.inl c2))))
    · obtain ⟨q, q1, q2, rfl⟩ := bd_pos c1
      have hq : q ≤ 8 := by
        by_cases z : q ≤ 8
        · exact z
        · exact absurd (nI_lt (a := 8) (b := q) (by omega) q2) c2
      refine br_f c1 (br_f c2 ?_)
      by_cases hN : (bd_pr s 8).length = 0
      · refine br_t (b_ext (fun j hj => ?_)) (none _ (Or.inr (Or.inr hN)))
        rw [h4 j hj, b_0]
        by_cases e : j < 8
        · have : ¬ 0 < s j := fun z => by
            have := bd_rk_lt e z
            omega
          simp [this]
        · simp [e]
      · have hex : ∃ j, j < 8 ∧ 0 < s j := by
          cases e : bd_pr s 8 with
          | nil => rw [e] at hN; exact absurd rfl hN
          | cons j l =>
            have := bd_pr_mem (s := s) (j := j) (k := 8) (by rw [e]; exact List.mem_cons_self ..)
            exact ⟨j, this⟩
        obtain ⟨j0, j1, j2⟩ := hex
        refine br_f (fun z => ?_) ?_
        · have := h4 j0 (by omega)
          rw [z, b_0] at this
          simp [j1, j2] at this
        · refine bx_la h4 h5 h60 (fun M M1 M2 M3 => ⟨11, ?_⟩)
          have hM0 : 0 < M := by have := M2 j0 j1; omega
          refine bx_sf32 (q := q) (M := M) h00 q1 hq hM0 M2 (fun v xR xO xC xE xW aL aR aP aO aW v1 v2 => ?_) 10 0 M 480 11 xR xO xC xE xW aL aR aP aO aW rfl (by omega) (Nat.le_refl M) (by omega) (Nat.le_refl _) (by omega) (bd_sf_480 q1 h60) (fun R r1 r2 => absurd r1 (by omega))
          refine by_sizeFor (s := s) q1 hq hY0.2 h60 (by omega) (fun w n a b g1 g2 => ⟨?_, B, s, h, hY0⟩)
          rw [bd_sf_eq v1 v2 M3 g1 g2]
theorem i_vc_together {k : Nat} {u : SX} {v : SY} (I : i_Rel k u v) (hk : k + 3 ≤ 1537) (v1 : Int32) (v2 : Int32) : wpX_together (fun r u' => wpY_together (fun r' v' => r' = r ∧ i_Rel (k + 3) u' v') v v1 v2) u v1 v2 := by
  obtain ⟨xB, xP, xR, xO, xC, xE, xW, xK, xL, aS, aL, aR, aP, aO, aW, aN⟩ := u
  obtain ⟨yR, yN, bS, bI, bB⟩ := v
  obtain ⟨B, s, h, hY⟩ := I
  have h0 : bd_RX B s xB xP xK xL aS aN := h
  have hY0 : bd_RY B s yR bS := hY
  have h00 := h0
  obtain ⟨h1, h2, h3, h4, h5, h6, h7⟩ := h0
  have h60 : ∀ j, s j ≤ 60 := fun j => Nat.le_trans (h6 j) h3
  have no : ((∀ i, i < 8 → v1 = nI i → s i = 0) ∨ (∀ i, i < 8 → v2 = nI i → s i = 0) ∨ v1 = v2) → wpY_together (fun r' v' => r' = 0 ∧ i_Rel (k + 3) (xB, xP, xR, xO, xC, xE, xW, xK, xL, aS, aL, aR, aP, aO, aW, aN) v') (yR, yN, bS, bI, bB) v1 v2 := fun hx =>
    by_togN (s := s) hY0.1 (by omega) hY0.2 h60 hx (fun n a b => ⟨rfl, B, s, h, hY0⟩)
  unfold wpX_together
  rcases bd_pres s v1 with ⟨i, hi, rfl, hsi⟩ | hn
  · refine bx_hasY h4 hi hsi (br_f (by decide) ?_)
    rcases bd_pres s v2 with ⟨j, hj, rfl, hsj⟩ | hn
    · refine bx_hasY h4 hj hsj (br_f (by decide) ?_)
      by_cases hij : i = j
      · exact br_t (by rw [hij]) (no (Or.inr (Or.inr (by rw [hij]))))
      · have hini : vp_in (nI i) 8 := vp_in_nI hi (by omega)
        have hinj : vp_in (nI j) 8 := vp_in_nI hj (by omega)
        have li := h60 i
        have lj := h60 j
        refine br_f (fun z => hij ((nI_eq (by omega) (by omega)).mp z)) ⟨hini, hinj, ?_⟩
        rw [nI_clamp (show i < 2 ^ 31 by omega), nI_clamp (show j < 2 ^ 31 by omega), h5 i hi hsi, h5 j hj hsj, nI_add]
        refine pk_le (s i + s j) B (fun hle => ?_) (fun hgt => ?_) rfl h1
        · unfold wpX_least
          refine bx_pack h00 (fun xR xO xC xE xW xK xL aL aR aP aO aW aN hr hp => ?_)
          obtain ⟨m, F, m1, m2, m3, m4, m5⟩ := hp
          refine bx_ask (fun a ha => ?_)
          refine bx_wantAll (t := bd_rm j (bd_rm i s)) (fun l hl => ?_) rfl (fun L' a' hp hA => ⟨hini, hinj, ?_⟩)
          · rw [b_and, b_and, h4 l (by omega), bd_not i (by omega) (by omega : l < 32), bd_not j (by omega) (by omega : l < 32)]
            unfold bd_rm
            by_cases e1 : l = j
            · exact Or.inl ⟨by simp [e1], if_pos e1⟩
            · rw [if_neg e1]
              by_cases e2 : l = i
              · exact Or.inl ⟨by simp [e2], if_pos e2⟩
              · rw [if_neg e2]
                by_cases q : 0 < s l
                · have := h60 l
                  exact Or.inr ⟨by simp [e1, e2, q, hl], h5 l hl q, q, by omega⟩
                · exact Or.inl ⟨by simp [q], by omega⟩
          · rw [h5 i hi hsi, h5 j hj hsj, nI_add]
            have hp2 := hp.trans (bd_it_pr (bd_rm j (bd_rm i s)) 8)
            have h8 := bd_pr_len (bd_rm j (bd_rm i s)) 8
            have hl : L'.length = (bd_pr (bd_rm j (bd_rm i s)) 8).length := by rw [hp2.length_eq, List.length_map]
            have hmem : ∀ w, w ∈ L' → w ≤ B := fun w hw => by
              obtain ⟨l, _, rfl⟩ := List.mem_map.mp (hp2.mem_iff.mp hw)
              have := h6 l
              unfold bd_rm
              split
              · omega
              · split <;> omega
            refine bx_want (s := s i + s j) (by omega) (L := L') (fun w hw => by have := hmem w hw; omega) (by omega) rfl hA (fun L2 a2 hpp hA2 => ?_)
            have hl2 : L2.length = L'.length + 1 := by rw [hpp.length_eq, List.length_cons]
            have hp3 := hpp.trans (hp2.cons (s i + s j))
            refine bx_solve (R := B) (o := 0) (D := fun _ => 0) (L := L2) ⟨h1, rfl, rfl, by omega, by omega, by omega, ha, fun _ _ => rfl, fun _ => Nat.zero_le _, hA2, fun w hw => ?_⟩ (fun m' e5 z5 a5 p5 a6 a7 hop hm' => ?_)
            · rcases List.mem_cons.mp (hpp.mem_iff.mp hw) with q | q
              · omega
              · exact hmem w q
            · have hop2 := bd_Op_perm hp3 hop
              have hge := m2.2.2 m' (Nat.zero_le _) (bd_to_ge hi hj hij hop2.2.1)
              refine pk_eq m' m (fun heq => ?_) (fun hne => ?_) rfl m3
              · refine by_tog (s := s) hY0.1 (by omega) hY0.2 h60 hi hsi hj hsj hij (fun mm f n a b hL hf => ⟨?_, B, s, hr, hY0⟩)
                have e := bd_Lst_Op hL m2
                subst e
                subst heq
                obtain ⟨z, z1, z2, z3⟩ := bd_to_to hi hj hij hsi hsj m2 hop2.2.1
                rw [hf.mpr ⟨z, z1, z2.1, z2.2, z3⟩]; rfl
              · refine by_tog (s := s) hY0.1 (by omega) hY0.2 h60 hi hsi hj hsj hij (fun mm f n a b hL hf => ⟨?_, B, s, hr, hY0⟩)
                have e := bd_Lst_Op hL m2
                subst e
                cases f with
                | false => rfl
                | true =>
                  obtain ⟨z, z1, z2, z3, z4⟩ := hf.mp rfl
                  have := hop2.2.2 mm (Nat.zero_le _) (bd_to_of hi hj hij hsi hsj z1 ⟨z2, z3⟩ z4)
                  omega
        · refine by_tog (s := s) hY0.1 (by omega) hY0.2 h60 hi hsi hj hsj hij (fun mm f n a b hL hf => ⟨?_, B, s, h, hY0⟩)
          cases f with
          | false => rfl
          | true =>
            obtain ⟨z, z1, z2, z3, z4⟩ := hf.mp rfl
            have := bd_CP_mem _ (bd_to_of hi hj hij hsi hsj z1 ⟨z2, z3⟩ z4) (s i + s j) (List.mem_cons_self ..)
            omega
    · exact bx_hasN h4 hn (br_t rfl (no (Or.inr (Or.inl hn))))
  · exact bx_hasN h4 hn (br_t rfl (no (Or.inl hn)))
end
