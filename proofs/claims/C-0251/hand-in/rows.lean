section
theorem pk_us {f : Nat → Int32} {k : Nat} {x : Int32} : upd f k x k = x := if_pos rfl
theorem pk_un {f : Nat → Int32} {k j : Nat} {x : Int32} (h : j ≠ k) : upd f k x j = f j := if_neg h
theorem pk_sub {a b : Nat} (h : b ≤ a) : nI a - nI b = nI (a - b) := by
  obtain ⟨c, rfl⟩ : ∃ c, a = c + b := ⟨a - b, by omega⟩
  rw [← nI_add, Int32.add_sub_cancel, Nat.add_sub_cancel]
theorem pk_m1 (n : Nat) : nI (n + 1) + (-1) = nI n := by
  rw [← nI_1, Int32.add_assoc, show (1 : Int32) + (-1) = 0 from rfl, Int32.add_zero]
theorem pk_mul (a b : Nat) : nI a * nI b = nI (a * b) := (Int32.ofNat_mul a b).symm
theorem pk_div {a d : Nat} (ha : a < 2 ^ 31) (h0 : 0 < d) (hd : d < 2 ^ 31) : nI a / nI d = nI (a / d) := by
  apply Int32.toInt_inj.mp
  rw [lg_idiv_nonneg (by rw [nI_toInt ha]; omega) (by rw [nI_toInt hd]; omega), nI_toInt ha, nI_toInt hd, nI_toInt (Nat.lt_of_le_of_lt (Nat.div_le_self a d) ha)]
  first | rfl | exact (Int.natCast_ediv _ _).symm
theorem pk_rem {a d : Nat} (ha : a < 2 ^ 31) (h0 : 0 < d) (hd : d < 2 ^ 31) : nI a - nI a / nI d * nI d = nI (a % d) := by
  rw [pk_div ha h0 hd, pk_mul, pk_sub (Nat.div_mul_le_self a d)]
  exact congrArg nI (by have := Nat.div_add_mod' a d; omega)
theorem pk_sub_toInt {a b : Nat} (ha : a < 2 ^ 30) (hb : b < 2 ^ 30) : (nI a - nI b).toInt = (a : Int) - b := by
  rw [Int32.toInt_sub, nI_toInt (by omega), nI_toInt (by omega)]
  exact Int.bmod_eq_of_le (by omega) (by omega)
theorem pk_sneg {a b : Nat} (hb : b < 2 ^ 30) (h : a < b) : nI a - nI b < 0 := by
  rw [Int32.lt_iff_toInt_lt, pk_sub_toInt (by omega) hb, show (0 : Int32).toInt = 0 from by decide]
  omega
theorem pk_ix (x : Int32) {n : Nat} (hn : n < 2 ^ 31) : x < 0 ∨ nI n ≤ x ∨ ∃ j : Nat, j < n ∧ x = nI j := by
  by_cases h : x < 0
  · exact Or.inl h
  · obtain ⟨j, hj, rfl⟩ := nI_of h
    by_cases h2 : j < n
    · exact Or.inr (Or.inr ⟨j, h2, rfl⟩)
    · exact Or.inr (Or.inl (nI_le (by omega) hj))
theorem pk_le {x y : Int32} {A B : Prop} (a b : Nat) (f : a ≤ b → A) (g : b < a → B) (hx : x = nI a := by rfl) (hy : y = nI b := by rfl) (ha : a < 2 ^ 31 := by omega) (hb : b < 2 ^ 31 := by omega) : (x ≤ y → A) ∧ (¬ x ≤ y → B) := by
  subst hx hy
  rw [nI_leI ha hb]
  exact ⟨f, fun z => g (by omega)⟩
theorem pk_lt {x y : Int32} {A B : Prop} (a b : Nat) (f : a < b → A) (g : b ≤ a → B) (hx : x = nI a := by rfl) (hy : y = nI b := by rfl) (ha : a < 2 ^ 31 := by omega) (hb : b < 2 ^ 31 := by omega) : (x < y → A) ∧ (¬ x < y → B) := by
  subst hx hy
  rw [nI_ltI ha hb]
  exact ⟨f, fun z => g (by omega)⟩
theorem pk_eq {x y : Int32} {A B : Prop} (a b : Nat) (f : a = b → A) (g : a ≠ b → B) (hx : x = nI a := by rfl) (hy : y = nI b := by rfl) (ha : a < 2 ^ 31 := by omega) (hb : b < 2 ^ 31 := by omega) : (x = y → A) ∧ (¬ x = y → B) := by
  subst hx hy
  rw [nI_eq ha hb]
  exact ⟨f, g⟩
theorem pk_in {x : Int32} (n N : Nat) (h : n < N) (hx : x = nI n := by rfl) (hN : N < 2 ^ 31 := by omega) : vp_in x N := by
  subst hx
  exact vp_in_nI h hN
theorem pk_cl {x : Int32} (n : Nat) (hx : x = nI n := by rfl) (h : n < 2 ^ 31 := by omega) : x.toNatClampNeg = n := by
  subst hx
  exact nI_clamp h
theorem pk_tn {n : Nat} (h : n < 2 ^ 32) : (nI n).toBitVec.toNat = n := Nat.mod_eq_of_lt h
theorem pk_and (x : Int32) {m : Int32} (k : Nat) (hm : m.toBitVec.toNat = 2 ^ k - 1) : x &&& m = nI (x.toBitVec.toNat % 2 ^ k) := by
  apply Int32.toBitVec_inj.mp
  apply BitVec.eq_of_toNat_eq
  rw [Int32.toBitVec_and, BitVec.toNat_and, hm, Nat.and_two_pow_sub_one_eq_mod]
  show _ = (BitVec.ofNat 32 _).toNat
  rw [BitVec.toNat_ofNat]
  exact (Nat.mod_eq_of_lt (Nat.lt_of_le_of_lt (Nat.mod_le _ _) x.toBitVec.isLt)).symm
theorem pk_andN {n : Nat} (h : n < 2 ^ 32) {m : Int32} (k : Nat) (hm : m.toBitVec.toNat = 2 ^ k - 1) : nI n &&& m = nI (n % 2 ^ k) := by
  rw [pk_and _ k hm, pk_tn h]
theorem pk_andE (x : Int32) {m : Int32} (k : Nat) (hm : m.toBitVec.toNat = 2 ^ k - 1) : ∃ j : Nat, j < 2 ^ k ∧ x &&& m = nI j := ⟨_, Nat.mod_lt _ (Nat.two_pow_pos k), pk_and x k hm⟩
theorem pk_andIn (x : Int32) {m : Int32} (k : Nat) (hm : m.toBitVec.toNat = 2 ^ k - 1) (hk : k ≤ 30) : vp_in (x &&& m) (2 ^ k) := by
  obtain ⟨j, hj, e⟩ := pk_andE x k hm
  rw [e]
  exact vp_in_nI hj (Nat.lt_of_le_of_lt (Nat.pow_le_pow_right (by decide) hk) (by decide))
theorem pk_shl (a s : Int32) (k : Nat) (hs : (s.toBitVec.smod 32).toNat = k) : (a <<< s).toBitVec.toNat = a.toBitVec.toNat * 2 ^ k % 2 ^ 32 := by
  show (a.toBitVec <<< (s.toBitVec.smod 32).toNat).toNat = _
  rw [hs, BitVec.toNat_shiftLeft, Nat.shiftLeft_eq]
theorem pk_shlN {n : Nat} (s : Int32) (k : Nat) (hs : (s.toBitVec.smod 32).toNat = k) (h : n * 2 ^ k < 2 ^ 32) : nI n <<< s = nI (n * 2 ^ k) := by
  apply Int32.toBitVec_inj.mp
  apply BitVec.eq_of_toNat_eq
  have hn : n < 2 ^ 32 := Nat.lt_of_le_of_lt (Nat.le_mul_of_pos_right n (Nat.two_pow_pos k)) h
  rw [pk_shl _ _ k hs, pk_tn hn, pk_tn h, Nat.mod_eq_of_lt h]
theorem pk_shr (a s : Int32) (k : Nat) (hs : (s.toBitVec.smod 32).toNat = k) : (a >>> s).toInt = a.toInt >>> k := by
  show (a.toBitVec.sshiftRight (s.toBitVec.smod 32).toNat).toInt = _
  rw [hs, BitVec.toInt_sshiftRight]
  rfl
theorem pk_shrN {n : Nat} (h : n < 2 ^ 31) (s : Int32) (k : Nat) (hs : (s.toBitVec.smod 32).toNat = k) : nI n >>> s = nI (n / 2 ^ k) := by
  apply Int32.toInt_inj.mp
  have h2 : n / 2 ^ k ≤ n := Nat.div_le_self _ _
  rw [pk_shr _ _ k hs, nI_toInt h, nI_toInt (by omega), Int.shiftRight_eq_div_pow]
  rfl
end
section
/-! the pure game: what an edge asks, the fold over the edges, least solutions -/
def eg_ask (T x g : Int) : Int := if x = T then T else if x - g < 0 then 0 else if x - g < T then x - g else T
def eg_pk (p : Int32) (r a : Int) : Int := if r < 0 then a else if p = 0 then (if r ≤ a then r else a) else (if a ≤ r then r else a)
def eg_fo (tl hd ga : Nat → Int32) (sk p x : Int32) (T : Int) (F : Nat → Int) : Nat → Int
  | 0 => -1
  | e + 1 => if tl e = x ∧ ¬ nI e = sk then eg_pk p (eg_fo tl hd ga sk p x T F e) (eg_ask T (F (hd e).toNatClampNeg) (ga e).toInt) else eg_fo tl hd ga sk p x T F e
def eg_W (c : Nat) (tl hd ga : Nat → Int32) (sk p x : Int32) (T : Int) (F : Nat → Int) : Int :=
  if eg_fo tl hd ga sk p x T F c < 0 then 0 else eg_fo tl hd ga sk p x T F c
def eg_In (n : Nat) (T : Int) (F : Nat → Int) : Prop := ∀ v, v < n → 0 ≤ F v ∧ F v ≤ T
def eg_Pre (n c : Nat) (tl hd ga P : Nat → Int32) (sk : Int32) (T : Int) (F : Nat → Int) : Prop :=
  ∀ v, v < n → eg_W c tl hd ga sk (P v) (nI v) T F ≤ F v
def eg_Low (n c : Nat) (tl hd ga P : Nat → Int32) (sk : Int32) (T : Int) (F : Nat → Int) : Prop :=
  ∀ G, eg_In n T G → eg_Pre n c tl hd ga P sk T G → ∀ v, v < n → F v ≤ G v
def eg_Sol (n c : Nat) (tl hd ga P : Nat → Int32) (sk : Int32) (T : Int) (F : Nat → Int) : Prop :=
  eg_In n T F ∧ eg_Pre n c tl hd ga P sk T F ∧ eg_Low n c tl hd ga P sk T F
def eg_G (n c : Nat) (tl hd ga : Nat → Int32) : Prop :=
  2 ≤ n ∧ n ≤ 6 ∧ c ≤ 14 ∧ (∀ e, ∃ t, t < n ∧ tl e = nI t) ∧ (∀ e, ∃ t, t < n ∧ hd e = nI t) ∧ ∀ e, -6 ≤ (ga e).toInt ∧ (ga e).toInt ≤ 6
def eg_en (T x : Int) : Int := if x = T then 99 else x
theorem eg_G_hd {n c : Nat} {tl hd ga : Nat → Int32} (h : eg_G n c tl hd ga) (e : Nat) : (hd e).toNatClampNeg < n := by
  obtain ⟨h2, h6, _, _, hh, _⟩ := h
  obtain ⟨t, ht, et⟩ := hh e
  rw [et, nI_clamp (by omega)]
  exact ht
theorem eg_ask_in {T x g : Int} (h0 : 0 ≤ x) (h1 : x ≤ T) : 0 ≤ eg_ask T x g ∧ eg_ask T x g ≤ T := by
  unfold eg_ask
  repeat' split
  all_goals omega
theorem eg_ask_mono {T x y g : Int} (h0 : 0 ≤ x) (h : x ≤ y) (h1 : y ≤ T) : eg_ask T x g ≤ eg_ask T y g := by
  unfold eg_ask
  repeat' split
  all_goals omega
theorem eg_pk_in {p : Int32} {T r a : Int} (h0 : -1 ≤ r) (h1 : r ≤ T) (h2 : 0 ≤ a) (h3 : a ≤ T) : -1 ≤ eg_pk p r a ∧ eg_pk p r a ≤ T := by
  unfold eg_pk
  repeat' split
  all_goals omega
theorem eg_pk_mono1 {p : Int32} {r r' a a' : Int} (h0 : r < 0 ↔ r' < 0) (h1 : r ≤ r') (ha : 0 ≤ a) (hb : a ≤ a') : (eg_pk p r a < 0 ↔ eg_pk p r' a' < 0) := by
  unfold eg_pk
  repeat' split
  all_goals omega
theorem eg_pk_mono2 {p : Int32} {r r' a a' : Int} (h0 : r < 0 ↔ r' < 0) (h1 : r ≤ r') (ha : 0 ≤ a) (hb : a ≤ a') : eg_pk p r a ≤ eg_pk p r' a' := by
  unfold eg_pk
  repeat' split
  all_goals omega
theorem eg_en_pk {p : Int32} {T r a : Int} (h0 : -1 ≤ r) (h1 : r ≤ T) (h2 : 0 ≤ a) (h3 : a ≤ T) (hT : 0 < T) (hT2 : T ≤ 31) :
    eg_pk p (eg_en T r) (eg_en T a) = eg_en T (eg_pk p r a) := by
  unfold eg_en eg_pk
  repeat' split
  all_goals omega
theorem eg_en_neg {T r : Int} (hT : 0 < T) : eg_en T r < 0 ↔ r < 0 := by
  unfold eg_en
  split <;> omega
theorem eg_en_inj {T x y : Int} (hx : x ≤ T) (hy : y ≤ T) (hT : T ≤ 31) : eg_en T x = eg_en T y ↔ x = y := by
  unfold eg_en
  repeat' split
  all_goals omega
theorem eg_en_99 {T x : Int} (hx : x ≤ T) (hT : T ≤ 31) : eg_en T x = 99 ↔ x = T := by
  unfold eg_en
  split <;> omega
theorem eg_en_lt {T x : Int} (h : x < T) : eg_en T x = x := by
  unfold eg_en
  split <;> omega
section
variable {n c : Nat} {tl hd ga P : Nat → Int32} {sk p x : Int32} {T : Int} {F G : Nat → Int}
theorem eg_fo_t {e : Nat} (h1 : tl e = x) (h2 : ¬ nI e = sk) : eg_fo tl hd ga sk p x T F (e + 1) = eg_pk p (eg_fo tl hd ga sk p x T F e) (eg_ask T (F (hd e).toNatClampNeg) (ga e).toInt) := if_pos ⟨h1, h2⟩
theorem eg_fo_f {e : Nat} (h1 : ¬ tl e = x) : eg_fo tl hd ga sk p x T F (e + 1) = eg_fo tl hd ga sk p x T F e := if_neg (fun h => h1 h.1)
theorem eg_fo_s {e : Nat} (h1 : nI e = sk) : eg_fo tl hd ga sk p x T F (e + 1) = eg_fo tl hd ga sk p x T F e := if_neg (fun h => h.2 h1)
theorem eg_fo_in (hG : eg_G n c tl hd ga) (hT : 0 ≤ T) (hF : eg_In n T F) : ∀ e, -1 ≤ eg_fo tl hd ga sk p x T F e ∧ eg_fo tl hd ga sk p x T F e ≤ T := by
  intro e
  induction e with
  | zero => exact ⟨Int.le_refl _, by show (-1 : Int) ≤ T; omega⟩
  | succ e ih =>
    by_cases h1 : tl e = x
    · by_cases h2 : nI e = sk
      · rw [eg_fo_s h2]; exact ih
      · rw [eg_fo_t h1 h2]
        have a := hF _ (eg_G_hd hG e)
        have b := eg_ask_in (g := (ga e).toInt) a.1 a.2
        exact eg_pk_in ih.1 ih.2 b.1 b.2
    · rw [eg_fo_f h1]; exact ih
theorem eg_fo_mono (hG : eg_G n c tl hd ga) (hF : eg_In n T F) (hH : eg_In n T G) (h : ∀ v, v < n → F v ≤ G v) : ∀ e,
    (eg_fo tl hd ga sk p x T F e < 0 ↔ eg_fo tl hd ga sk p x T G e < 0) ∧ eg_fo tl hd ga sk p x T F e ≤ eg_fo tl hd ga sk p x T G e := by
  intro e
  induction e with
  | zero => exact ⟨Iff.rfl, Int.le_refl _⟩
  | succ e ih =>
    by_cases h1 : tl e = x
    · by_cases h2 : nI e = sk
      · rw [eg_fo_s h2, eg_fo_s h2]; exact ih
      · rw [eg_fo_t h1 h2, eg_fo_t h1 h2]
        have a := hF _ (eg_G_hd hG e)
        have b := eg_ask_in (g := (ga e).toInt) a.1 a.2
        have d := eg_ask_mono (g := (ga e).toInt) a.1 (h _ (eg_G_hd hG e)) (hH _ (eg_G_hd hG e)).2
        exact ⟨eg_pk_mono1 ih.1 ih.2 b.1 d, eg_pk_mono2 ih.1 ih.2 b.1 d⟩
    · rw [eg_fo_f h1, eg_fo_f h1]; exact ih
theorem eg_fo_congr (h : ∀ e, e < c → tl e = x → F (hd e).toNatClampNeg = G (hd e).toNatClampNeg) : ∀ e, e ≤ c → eg_fo tl hd ga sk p x T F e = eg_fo tl hd ga sk p x T G e := by
  intro e
  induction e with
  | zero => intro _; rfl
  | succ e ih =>
    intro he
    have i := ih (by omega)
    by_cases h1 : tl e = x
    · by_cases h2 : nI e = sk
      · rw [eg_fo_s h2, eg_fo_s h2]; exact i
      · rw [eg_fo_t h1 h2, eg_fo_t h1 h2, i, h e (by omega) h1]
    · rw [eg_fo_f h1, eg_fo_f h1]; exact i
theorem eg_W_in (hG : eg_G n c tl hd ga) (hT : 0 ≤ T) (hF : eg_In n T F) : 0 ≤ eg_W c tl hd ga sk p x T F ∧ eg_W c tl hd ga sk p x T F ≤ T := by
  have a := eg_fo_in (sk := sk) (p := p) (x := x) hG hT hF c
  unfold eg_W
  split <;> omega
theorem eg_W_mono (hG : eg_G n c tl hd ga) (hF : eg_In n T F) (hH : eg_In n T G) (h : ∀ v, v < n → F v ≤ G v) : eg_W c tl hd ga sk p x T F ≤ eg_W c tl hd ga sk p x T G := by
  have a := eg_fo_mono (sk := sk) (p := p) (x := x) hG hF hH h c
  unfold eg_W
  repeat' split
  all_goals omega
theorem eg_W_congr (h : ∀ e, e < c → tl e = x → F (hd e).toNatClampNeg = G (hd e).toNatClampNeg) : eg_W c tl hd ga sk p x T F = eg_W c tl hd ga sk p x T G := by
  unfold eg_W
  rw [eg_fo_congr h c (Nat.le_refl c)]
theorem eg_low_W (hG : eg_G n c tl hd ga) (hF : eg_In n T F) (hL : eg_Low n c tl hd ga P sk T F) {H : Nat → Int} (hH : eg_In n T H) (hP : eg_Pre n c tl hd ga P sk T H) {v : Nat} (hv : v < n) :
    eg_W c tl hd ga sk (P v) (nI v) T F ≤ H v :=
  Int.le_trans (eg_W_mono hG hF hH (hL H hH hP)) (hP v hv)
theorem eg_Sol_uniq (h : eg_Sol n c tl hd ga P sk T F) (h' : eg_Sol n c tl hd ga P sk T G) {v : Nat} (hv : v < n) : F v = G v :=
  Int.le_antisymm (h.2.2 G h'.1 h'.2.1 v hv) (h'.2.2 F h.1 h.2.1 v hv)
end
/-! sums -/
def eg_sum (F : Nat → Int) : Nat → Int
  | 0 => 0
  | n + 1 => eg_sum F n + F n
theorem eg_sum_s (F : Nat → Int) (n : Nat) : eg_sum F (n + 1) = eg_sum F n + F n := rfl
theorem eg_sum_0 (F : Nat → Int) : eg_sum F 0 = 0 := rfl
theorem eg_sum_le {F : Nat → Int} : ∀ n : Nat, (∀ v, v < n → F v ≤ 31) → eg_sum F n ≤ 31 * n := by
  intro n
  induction n with
  | zero => intro _; rw [eg_sum_0]; omega
  | succ n ih =>
    intro h
    have a := ih (fun v hv => h v (by omega))
    have b := h n (by omega)
    rw [eg_sum_s]
    omega
theorem eg_sum_nn {F : Nat → Int} : ∀ n : Nat, (∀ v, v < n → 0 ≤ F v) → 0 ≤ eg_sum F n := by
  intro n
  induction n with
  | zero => intro _; rw [eg_sum_0]; omega
  | succ n ih =>
    intro h
    have a := ih (fun v hv => h v (by omega))
    have b := h n (by omega)
    rw [eg_sum_s]
    omega
theorem eg_sum_mono {F G : Nat → Int} : ∀ n : Nat, (∀ v, v < n → F v ≤ G v) → eg_sum F n ≤ eg_sum G n := by
  intro n
  induction n with
  | zero => intro _; rw [eg_sum_0, eg_sum_0]; omega
  | succ n ih =>
    intro h
    have a := ih (fun v hv => h v (by omega))
    have b := h n (by omega)
    rw [eg_sum_s, eg_sum_s]
    omega
theorem eg_sum_lt {F G : Nat → Int} : ∀ n : Nat, (∀ v, v < n → F v ≤ G v) → (∃ v, v < n ∧ F v < G v) → eg_sum F n + 1 ≤ eg_sum G n := by
  intro n
  induction n with
  | zero => intro _ h; obtain ⟨v, hv, _⟩ := h; omega
  | succ n ih =>
    intro h hx
    have b := h n (by omega)
    rw [eg_sum_s, eg_sum_s]
    obtain ⟨v, hv, hl⟩ := hx
    by_cases e : v = n
    · subst e
      have a := eg_sum_mono v (fun w hw => h w (by omega))
      omega
    · have a := ih (fun w hw => h w (by omega)) ⟨v, by omega, hl⟩
      omega
/-! degrees, and cuts -/
def eg_deg (tl : Nat → Int32) (x : Int32) : Nat → Nat
  | 0 => 0
  | e + 1 => eg_deg tl x e + (if tl e = x then 1 else 0)
theorem eg_deg_t {tl : Nat → Int32} {x : Int32} {e : Nat} (h : tl e = x) : eg_deg tl x (e + 1) = eg_deg tl x e + 1 := by
  show eg_deg tl x e + (if tl e = x then 1 else 0) = _
  rw [if_pos h]
theorem eg_deg_f {tl : Nat → Int32} {x : Int32} {e : Nat} (h : ¬ tl e = x) : eg_deg tl x (e + 1) = eg_deg tl x e := by
  show eg_deg tl x e + (if tl e = x then 1 else 0) = _
  rw [if_neg h]
  rfl
theorem eg_deg_up (tl : Nat → Int32) (x : Int32) (e : Nat) : eg_deg tl x e ≤ eg_deg tl x (e + 1) := Nat.le_add_right _ _
theorem eg_deg_le (tl : Nat → Int32) (x : Int32) : ∀ e, eg_deg tl x e ≤ e := by
  intro e
  induction e with
  | zero => exact Nat.le_refl _
  | succ e ih =>
    by_cases h : tl e = x
    · rw [eg_deg_t h]; omega
    · rw [eg_deg_f h]; omega
theorem eg_deg_congr {tl tl' : Nat → Int32} {x : Int32} : ∀ e, (∀ j, j < e → tl' j = tl j) → eg_deg tl' x e = eg_deg tl x e := by
  intro e
  induction e with
  | zero => intro _; rfl
  | succ e ih =>
    intro h
    have i := ih (fun j hj => h j (by omega))
    have k := h e (by omega)
    by_cases z : tl e = x
    · rw [eg_deg_t z, eg_deg_t (k.trans z), i]
    · rw [eg_deg_f z, eg_deg_f (fun q => z (k.symm.trans q)), i]
theorem eg_deg_link {tl : Nat → Int32} {x : Int32} {c : Nat} (h : ∀ y, eg_deg tl y c ≤ 3) (hx : eg_deg tl x c ≠ 3) : ∀ y, eg_deg (upd tl c x) y (c + 1) ≤ 3 := by
  intro y
  have a : eg_deg (upd tl c x) y c = eg_deg tl y c := eg_deg_congr c (fun j hj => pk_un (by omega))
  have b := h y
  by_cases z : x = y
  · subst z
    rw [eg_deg_t pk_us, a]
    omega
  · rw [eg_deg_f (by rw [pk_us]; exact z), a]
    exact b
def eg_cutP (j c : Nat) (a a' : Nat → Int32) : Prop := (∀ e, e < j → a' e = a e) ∧ (∀ e, j ≤ e → e + 1 < c → a' e = a (e + 1)) ∧ ∀ e, ∃ k, a' e = a k
theorem eg_cut_0 {j c : Nat} {a : Nat → Int32} (h : c ≤ j + 1) : eg_cutP j c a a :=
  ⟨fun _ _ => rfl, fun e h1 h2 => absurd h2 (by omega), fun e => ⟨e, rfl⟩⟩
theorem eg_cut_s {j c : Nat} {a a' : Nat → Int32} (h : eg_cutP (j + 1) c (upd a j (a (j + 1))) a') : eg_cutP j c a a' := by
  obtain ⟨h1, h2, h3⟩ := h
  refine ⟨fun e he => ?_, fun e he hc => ?_, fun e => ?_⟩
  · rw [h1 e (by omega)]; exact pk_un (by omega)
  · by_cases z : e = j
    · subst z
      rw [h1 e (by omega)]
      exact pk_us
    · rw [h2 e (by omega) hc]; exact pk_un (by omega)
  · obtain ⟨k, hk⟩ := h3 e
    by_cases z : k = j
    · subst z
      exact ⟨k + 1, hk.trans pk_us⟩
    · exact ⟨k, hk.trans (pk_un z)⟩
theorem eg_deg_cut {tl tl' : Nat → Int32} {k c : Nat} (h : eg_cutP k c tl tl') (y : Int32) : ∀ m, m + 1 ≤ c → (m ≤ k → eg_deg tl' y m = eg_deg tl y m) ∧ (k ≤ m → eg_deg tl' y m ≤ eg_deg tl y (m + 1)) := by
  obtain ⟨h1, h2, _⟩ := h
  intro m
  induction m with
  | zero => intro _; exact ⟨fun _ => rfl, fun _ => Nat.zero_le _⟩
  | succ m ih =>
    intro hm
    obtain ⟨i1, i2⟩ := ih (by omega)
    have lo : m + 1 ≤ k → eg_deg tl' y (m + 1) = eg_deg tl y (m + 1) := by
      intro hk
      have q := h1 m (by omega)
      by_cases z : tl m = y
      · rw [eg_deg_t z, eg_deg_t (q.trans z), i1 (by omega)]
      · rw [eg_deg_f z, eg_deg_f (fun w => z (q.symm.trans w)), i1 (by omega)]
    refine ⟨lo, fun hk => ?_⟩
    by_cases z : m + 1 ≤ k
    · rw [lo z]
      exact eg_deg_up _ _ _
    · have q := h2 m (by omega) (by omega)
      have i := i2 (by omega)
      by_cases w : tl (m + 1) = y
      · rw [eg_deg_t w, eg_deg_t (q.trans w)]; omega
      · rw [eg_deg_f w, eg_deg_f (fun s => w (q.symm.trans s))]; exact i
theorem eg_deg_cut3 {tl tl' : Nat → Int32} {k c : Nat} (h : eg_cutP k c tl tl') (hk : k < c) (h3 : ∀ y, eg_deg tl y c ≤ 3) : ∀ y, eg_deg tl' y (c - 1) ≤ 3 := by
  intro y
  have a := (eg_deg_cut h y (c - 1) (by omega)).2 (by omega)
  rw [show c - 1 + 1 = c by omega] at a
  exact Nat.le_trans a (h3 y)
end
section
/-! the waiting list in its ring of eight -/
theorem eq_len {n : Nat} {Q : List Nat} (h : Q.Nodup) (hb : ∀ v, v ∈ Q → v < n) : Q.length ≤ n := by
  have a : Q.length ≤ (List.range n).length := List.Nodup.length_le_of_subset h (fun v hv => List.mem_range.mpr (hb v hv))
  rw [List.length_range] at a
  exact a
def eq_Q (n first last : Nat) (qu wa : Nat → Int32) (Q : List Nat) : Prop :=
  Q.Nodup ∧ (∀ v, v ∈ Q → v < n) ∧ first < 8 ∧ last = (first + Q.length) % 8 ∧ (∀ i v, Q[i]? = some v → qu ((first + i) % 8) = nI v) ∧ (∀ v, v < n → (wa v = 0 ↔ ¬ v ∈ Q))
theorem eq_Q_len {n first last : Nat} {qu wa : Nat → Int32} {Q : List Nat} (h : eq_Q n first last qu wa Q) : Q.length ≤ n := eq_len h.1 h.2.1
theorem eq_Q_emp {n first last : Nat} {qu wa : Nat → Int32} {Q : List Nat} (hn : n ≤ 6) (h : eq_Q n first last qu wa Q) (e : first = last) : Q = [] := by
  have a := eq_Q_len h
  obtain ⟨_, _, h3, h4, _, _⟩ := h
  apply List.eq_nil_of_length_eq_zero
  omega
theorem eq_Q_cons {n first last : Nat} {qu wa : Nat → Int32} {Q : List Nat} (h : eq_Q n first last qu wa Q) (e : ¬ first = last) : ∃ v R, Q = v :: R := by
  cases Q with
  | nil =>
    obtain ⟨_, _, h3, h4, _, _⟩ := h
    exact absurd (by rw [h4]; show first = (first + 0) % 8; omega) e
  | cons v R => exact ⟨v, R, rfl⟩
theorem eq_Q_hd {n first last : Nat} {qu wa : Nat → Int32} {v : Nat} {R : List Nat} (h : eq_Q n first last qu wa (v :: R)) : v < n ∧ qu first = nI v := by
  obtain ⟨_, h2, h3, h4, h5, _⟩ := h
  refine ⟨h2 v List.mem_cons_self, ?_⟩
  have a := h5 0 v rfl
  rw [show (first + 0) % 8 = first by omega] at a
  exact a
theorem eq_Q_pop {n first last : Nat} {qu wa : Nat → Int32} {v : Nat} {R : List Nat} (h : eq_Q n first last qu wa (v :: R)) : eq_Q n ((first + 1) % 8) last qu (upd wa v 0) R := by
  obtain ⟨h1, h2, h3, h4, h5, h6⟩ := h
  obtain ⟨n1, n2⟩ := List.nodup_cons.mp h1
  refine ⟨n2, fun w hw => h2 w (List.mem_cons_of_mem _ hw), Nat.mod_lt _ (by decide), ?_, fun i w hw => ?_, fun w hw => ?_⟩
  · rw [h4, List.length_cons]
    omega
  · have a := h5 (i + 1) w (by rw [List.getElem?_cons_succ]; exact hw)
    rw [show ((first + 1) % 8 + i) % 8 = (first + (i + 1)) % 8 by omega]
    exact a
  · by_cases z : w = v
    · subst z
      rw [pk_us]
      exact ⟨fun _ => n1, fun _ => rfl⟩
    · rw [pk_un z, h6 w hw, List.mem_cons]
      exact ⟨fun a b => a (Or.inr b), fun a b => b.elim z a⟩
theorem eq_Q_push {n first last : Nat} {qu wa : Nat → Int32} {u : Nat} {Q : List Nat} (hn : n ≤ 6) (h : eq_Q n first last qu wa Q) (hu : u < n) (hw : wa u = 0) :
    eq_Q n first ((last + 1) % 8) (upd qu last (nI u)) (upd wa u 1) (Q ++ [u]) := by
  have hl := eq_Q_len h
  obtain ⟨h1, h2, h3, h4, h5, h6⟩ := h
  have hq : ¬ u ∈ Q := (h6 u hu).mp hw
  have nd : (Q ++ [u]).Nodup := by
    rw [List.nodup_append]
    refine ⟨h1, List.nodup_cons.mpr ⟨List.not_mem_nil, List.nodup_nil⟩, fun a ha b hb => ?_⟩
    rw [List.mem_singleton.mp hb]
    exact fun e => hq (e ▸ ha)
  have hb : ∀ v, v ∈ Q ++ [u] → v < n := by
    intro v hv
    rcases List.mem_append.mp hv with a | a
    · exact h2 v a
    · rw [List.mem_singleton.mp a]; exact hu
  have l1 := eq_len nd hb
  have le : (Q ++ [u]).length = Q.length + 1 := by rw [List.length_append]; rfl
  rw [le] at l1
  refine ⟨nd, hb, h3, ?_, fun i w hi => ?_, fun w hn' => ?_⟩
  · rw [le, h4]; omega
  · by_cases z : i < Q.length
    · rw [List.getElem?_append_left z] at hi
      rw [pk_un (by omega)]
      exact h5 i w hi
    · have zi : i < (Q ++ [u]).length := by
        rcases Nat.lt_or_ge i (Q ++ [u]).length with a | a
        · exact a
        · rw [List.getElem?_eq_none a] at hi
          exact nomatch hi
      have e : i = Q.length := by omega
      subst e
      rw [List.getElem?_append_right (Nat.le_refl _), Nat.sub_self] at hi
      have e2 : u = w := Option.some.inj hi
      rw [← h4, pk_us, e2]
  · by_cases z : w = u
    · subst z
      rw [pk_us]
      exact ⟨fun a => absurd a (by decide), fun a => absurd (List.mem_append.mpr (Or.inr (List.mem_singleton.mpr rfl))) a⟩
    · rw [pk_un z, h6 w hn', List.mem_append, List.mem_singleton]
      exact ⟨fun a b => b.elim a z, fun a b => a (Or.inl b)⟩
theorem eq_Q_init {n : Nat} {qu wa : Nat → Int32} (hn : n ≤ 6) (h : ∀ v, v < n → qu v = nI v ∧ wa v = 1) : eq_Q n 0 n qu wa (List.range n) := by
  refine ⟨List.nodup_range, fun v hv => List.mem_range.mp hv, by decide, ?_, fun i v hi => ?_, fun v hv => ?_⟩
  · rw [List.length_range]; omega
  · have zi : i < n := by
      rcases Nat.lt_or_ge i n with a | a
      · exact a
      · rw [List.getElem?_eq_none (by rw [List.length_range]; exact a)] at hi
        exact nomatch hi
    rw [List.getElem?_range zi] at hi
    have e := Option.some.inj hi
    rw [← e, show (0 + i) % 8 = i by omega]
    exact (h i zi).1
  · rw [(h v hv).2]
    exact ⟨fun a => absurd a (by decide), fun a => absurd (List.mem_range.mpr hv) a⟩
end
section
/-! the component: what an edge asks, what a vertex wants -/
theorem ei_eq {x y : Int32} : x = y ↔ x.toInt = y.toInt := Int32.toInt_inj.symm
theorem ei_0 : (0 : Int32).toInt = 0 := by decide
theorem ei_m1 : (-1 : Int32).toInt = -1 := by decide
theorem ei_99 : (99 : Int32).toInt = 99 := by decide
theorem ei_n0 {x : Int32} : x < 0 ↔ x.toInt < 0 := by rw [Int32.lt_iff_toInt_lt, ei_0]
theorem ei_p0 {x : Int32} : 0 ≤ x ↔ 0 ≤ x.toInt := by rw [Int32.le_iff_toInt_le, ei_0]
theorem ei_le {x y : Int32} : x ≤ y ↔ x.toInt ≤ y.toInt := Int32.le_iff_toInt_le
theorem ei_lt {x y : Int32} : x < y ↔ x.toInt < y.toInt := Int32.lt_iff_toInt_lt
def ex_F (ne : Nat → Int32) : Nat → Int := fun v => (ne v).toInt
theorem eg_pk_p {p : Int32} {r a : Int} (h : r < 0) : eg_pk p r a = a := if_pos h
theorem eg_pk_0r {p : Int32} {r a : Int} (h : ¬ r < 0) (h0 : p = 0) (h1 : r ≤ a) : eg_pk p r a = r := by
  unfold eg_pk; rw [if_neg h, if_pos h0, if_pos h1]
theorem eg_pk_0a {p : Int32} {r a : Int} (h : ¬ r < 0) (h0 : p = 0) (h1 : ¬ r ≤ a) : eg_pk p r a = a := by
  unfold eg_pk; rw [if_neg h, if_pos h0, if_neg h1]
theorem eg_pk_1r {p : Int32} {r a : Int} (h : ¬ r < 0) (h0 : ¬ p = 0) (h1 : a ≤ r) : eg_pk p r a = r := by
  unfold eg_pk; rw [if_neg h, if_neg h0, if_pos h1]
theorem eg_pk_1a {p : Int32} {r a : Int} (h : ¬ r < 0) (h0 : ¬ p = 0) (h1 : ¬ a ≤ r) : eg_pk p r a = a := by
  unfold eg_pk; rw [if_neg h, if_neg h0, if_neg h1]
section
variable {n c t : Nat} {sk cu : Int32} {tl hd ga ow ne wa qu : Nat → Int32}
theorem ex_asked (hG : eg_G n c tl hd ga) (ht : t ≤ 31) {e : Nat} (he : e < 14) (hN : eg_In n t (ex_F ne)) {post : Int32 → Prop}
    (K : ∀ r : Int32, r.toInt = eg_ask t (ex_F ne (hd e).toNatClampNeg) (ga e).toInt → post r) :
    wpX_asked post (nI n, nI c, nI t, sk, cu, tl, hd, ga, ow, ne, wa, qu) (nI e) := by
  have hh := eg_G_hd hG e
  obtain ⟨h2, h6, h14, _, hhd, hga⟩ := hG
  obtain ⟨h, hn, eh⟩ := hhd e
  have ec : (nI e).toNatClampNeg = e := nI_clamp (by omega)
  have hx := hN _ hh
  have hg := hga e
  have T1 : (nI t).toInt = (t : Int) := nI_toInt (by omega)
  unfold wpX_asked
  dsimp only
  rw [ec]
  refine ⟨vp_in_nI he (by decide), ?_, fun x ex => ?_⟩
  · rw [eh]; exact vp_in_nI (by omega) (by decide)
  have ex' : ex_F ne (hd e).toNatClampNeg = x.toInt := (congrArg Int32.toInt ex).symm
  rw [ex'] at K hx
  refine br_c (fun h1 => K _ ?_) (fun h1 => ⟨vp_in_nI he (by decide), fun y ey => ?_⟩)
  · rw [ei_eq, T1] at h1
    unfold eg_ask
    rw [if_pos h1, T1]
  · have sy : y.toInt = x.toInt - (ga e).toInt := by rw [ey]; exact Jvm.Kit.i32_sub (by omega) (by omega)
    rw [ei_eq, T1] at h1
    refine br_c (fun h2 => br_c (fun h3 => K _ ?_) (fun h3 => K _ ?_)) (fun h2 => K _ ?_)
    · rw [ei_p0, sy] at h2
      rw [ei_le, T1, sy] at h3
      unfold eg_ask
      rw [if_neg h1, if_neg (by omega), if_neg (by omega), T1]
    · rw [ei_p0, sy] at h2
      rw [ei_le, T1, sy] at h3
      unfold eg_ask
      rw [if_neg h1, if_neg (by omega), if_pos (by omega), sy]
    · rw [ei_p0, sy] at h2
      unfold eg_ask
      rw [if_neg h1, if_pos (by omega), ei_0]
theorem ex_w65 {post : Int32 → Prop} {J : Int32 → Int32 → Prop} {x1 x2 x3 x4 a b d s k : Int32} (h : J x4 (x3 + 1)) :
    wX_wantedAt_65 post J x1 x2 x3 x4 a b d s k tl hd ga ow ne wa qu := br_f (by decide) (nm_e h)
theorem ex_w69 {post : Int32 → Prop} {J : Int32 → Int32 → Prop} {x1 x2 x3 x4 a b d s k : Int32} (h : J x2 (x3 + 1)) :
    wX_wantedAt_69 post J x1 x2 x3 x4 a b d s k tl hd ga ow ne wa qu := br_t rfl (nm_e h)
theorem ex_waE {v : Nat} {post : Int32 → Prop} (K : ∀ r : Int32, r.toInt = eg_W c tl hd ga sk (ow v) (nI v) t (ex_F ne) → post r)
    {x2 : Int32} (h3 : x2.toInt = eg_fo tl hd ga sk (ow v) (nI v) t (ex_F ne) c) : (0 ≤ x2 → post x2) ∧ (¬ 0 ≤ x2 → post 0) := by
  refine br_c (fun h => K _ ?_) (fun h => K _ ?_)
  · rw [ei_p0, h3] at h
    unfold eg_W
    rw [if_neg (by omega), h3]
  · rw [ei_p0, h3] at h
    unfold eg_W
    rw [if_pos (by omega), ei_0]
theorem ex_wa4 (hG : eg_G n c tl hd ga) (ht : t ≤ 31) (hN : eg_In n t (ex_F ne)) {v : Nat} (hv : v < n) {post : Int32 → Prop}
    (K : ∀ r : Int32, r.toInt = eg_W c tl hd ga sk (ow v) (nI v) t (ex_F ne) → post r) :
    ∀ (m e : Nat) (x2 : Int32), c < e + m → e ≤ c → x2.toInt = eg_fo tl hd ga sk (ow v) (nI v) t (ex_F ne) e →
      wX_wantedAt_4 post (nI v) (nI n) (nI c) (nI t) sk cu tl hd ga ow ne wa qu m x2 (nI e) := by
  have h6 : n ≤ 6 := hG.2.1
  have h14 : c ≤ 14 := hG.2.2.1
  intro m
  induction m with
  | zero => intro e x2 h1 h2; exact absurd h1 (by omega)
  | succ m ih =>
    intro e x2 h1 h2 h3
    by_cases z : e = c
    · rw [z] at h3
      exact br_t (nI_le (by omega) (by omega)) (ex_waE K h3)
    · have ec : (nI e).toNatClampNeg = e := nI_clamp (by omega)
      have vc : (nI v).toNatClampNeg = v := nI_clamp (by omega)
      have nx : nI e + 1 = nI (e + 1) := nI_1 e
      refine br_f (nI_ge (by omega) (by omega)) ⟨vp_in_nI (by omega) (by decide), ?_⟩
      rw [ec]
      refine br_c (fun g1 => br_c (fun g2 => nm_r nx (ih (e + 1) x2 (by omega) (by omega) (by rw [eg_fo_s g2]; exact h3)))
        (fun g2 => ex_asked hG ht (by omega) hN (fun r hr => ?_))) (fun g1 => nm_r nx (ih (e + 1) x2 (by omega) (by omega) (by rw [eg_fo_f g1]; exact h3)))
      have go65 : eg_pk (ow v) x2.toInt r.toInt = r.toInt → wX_wantedAt_65 post (wX_wantedAt_4 post (nI v) (nI n) (nI c) (nI t) sk cu tl hd ga ow ne wa qu m) (nI v) x2 (nI e) r (nI n) (nI c) (nI t) sk cu tl hd ga ow ne wa qu := by
        intro q
        apply ex_w65
        rw [nx]
        exact ih (e + 1) r (by omega) (by omega) (by rw [eg_fo_t g1 g2, ← h3, ← hr, q])
      have go69 : eg_pk (ow v) x2.toInt r.toInt = x2.toInt → wX_wantedAt_69 post (wX_wantedAt_4 post (nI v) (nI n) (nI c) (nI t) sk cu tl hd ga ow ne wa qu m) (nI v) x2 (nI e) r (nI n) (nI c) (nI t) sk cu tl hd ga ow ne wa qu := by
        intro q
        apply ex_w69
        rw [nx]
        exact ih (e + 1) x2 (by omega) (by omega) (by rw [eg_fo_t g1 g2, ← h3, ← hr, q])
      refine br_c (fun a => go65 (eg_pk_p (ei_n0.mp a))) (fun a => ⟨vp_in_nI (by omega) (by decide), ?_⟩)
      have a' : ¬ x2.toInt < 0 := fun w => a (ei_n0.mpr w)
      rw [vc]
      exact br_c (fun b => br_c (fun d => go69 (eg_pk_0r a' b (ei_le.mp d))) (fun d => go65 (eg_pk_0a a' b (fun w => d (ei_le.mpr w)))))
        (fun b => br_c (fun d => go69 (eg_pk_1r a' b (ei_le.mp d))) (fun d => go65 (eg_pk_1a a' b (fun w => d (ei_le.mpr w)))))
theorem ex_wantedAt (hG : eg_G n c tl hd ga) (ht : t ≤ 31) (hN : eg_In n t (ex_F ne)) {v : Nat} (hv : v < n) {post : Int32 → Prop}
    (K : ∀ r : Int32, r.toInt = eg_W c tl hd ga sk (ow v) (nI v) t (ex_F ne) → post r) :
    wpX_wantedAt post (nI n, nI c, nI t, sk, cu, tl, hd, ga, ow, ne, wa, qu) (nI v) :=
  ⟨c + 1, ex_wa4 hG ht hN hv K (c + 1) 0 (-1) (by omega) (by omega) ei_m1⟩
end
end
section
/-! the component: solve -/
theorem ex_m7 {a : Nat} (h : a < 8) : nI a &&& 7 = nI a := by
  rw [pk_andN (show a < 2 ^ 32 by omega) 3 (by decide)]
  exact congrArg nI (by omega)
theorem ex_m7s {a : Nat} (h : a < 8) : (nI a + 1) &&& 7 = nI ((a + 1) % 8) := by
  rw [nI_1, pk_andN (show a + 1 < 2 ^ 32 by omega) 3 (by decide)]
theorem ex_b0 : vp_nar .boolean 0 = 0 := rfl
theorem ex_b1 : vp_nar .boolean 1 = 1 := rfl
def ex_C (n c v e : Nat) (tl hd : Nat → Int32) (Pw : Nat → Prop) (Q : List Nat) : Prop :=
  ∀ w, w < n → ¬ w ∈ Q → Pw w ∨ ∃ k, e ≤ k ∧ k < c ∧ tl k = nI w ∧ hd k = nI v
theorem ex_C_end {n c v e : Nat} {tl hd : Nat → Int32} {Pw : Nat → Prop} {Q : List Nat} (h : ex_C n c v e tl hd Pw Q) (he : c ≤ e) : ∀ w, w < n → ¬ w ∈ Q → Pw w := by
  intro w hw hq
  rcases h w hw hq with a | ⟨k, h1, h2, _⟩
  · exact a
  · exact absurd h1 (by omega)
theorem ex_C_skip {n c v e : Nat} {tl hd : Nat → Int32} {Pw : Nat → Prop} {Q : List Nat} (h : ex_C n c v e tl hd Pw Q) (he : ¬ hd e = nI v) : ex_C n c v (e + 1) tl hd Pw Q := by
  intro w hw hq
  rcases h w hw hq with a | ⟨k, h1, h2, h3, h4⟩
  · exact Or.inl a
  · by_cases z : k = e
    · rw [z] at h4; exact absurd h4 he
    · exact Or.inr ⟨k, by omega, h2, h3, h4⟩
theorem ex_C_in {n c v e u : Nat} {tl hd : Nat → Int32} {Pw : Nat → Prop} {Q : List Nat} (hn : n ≤ 6) (hu : u < n) (h : ex_C n c v e tl hd Pw Q) (he : tl e = nI u) (hq : u ∈ Q) : ex_C n c v (e + 1) tl hd Pw Q := by
  intro w hw hw2
  rcases h w hw hw2 with a | ⟨k, h1, h2, h3, h4⟩
  · exact Or.inl a
  · by_cases z : k = e
    · rw [z, he, nI_eq (by omega) (by omega)] at h3
      rw [h3] at hq
      exact absurd hq hw2
    · exact Or.inr ⟨k, by omega, h2, h3, h4⟩
theorem ex_C_up {n c v e : Nat} {tl hd : Nat → Int32} {Pw : Nat → Prop} {Q R : List Nat} (h : ex_C n c v e tl hd Pw Q) (hs : ∀ w, w ∈ Q → w ∈ R) : ex_C n c v e tl hd Pw R :=
  fun w hw hq => h w hw (fun a => hq (hs w a))
def ex_I (n c t : Nat) (tl hd ga ow : Nat → Int32) (sk : Int32) (step first last : Nat) (ne wa qu : Nat → Int32) (Q : List Nat) : Prop :=
  eg_In n t (ex_F ne) ∧ eg_Low n c tl hd ga ow sk t (ex_F ne) ∧ eq_Q n first last qu wa Q ∧
    (∀ w, w < n → ¬ w ∈ Q → eg_W c tl hd ga sk (ow w) (nI w) t (ex_F ne) ≤ ex_F ne w) ∧ ((step : Int) + (Q.length : Int) ≤ 6 + 6 * eg_sum (ex_F ne) n)
section
variable {n c t : Nat} {sk cu : Int32} {tl hd ga ow : Nat → Int32}
theorem ex_I_bound {step first last : Nat} {ne wa qu : Nat → Int32} {Q : List Nat} (hG : eg_G n c tl hd ga) (ht : t ≤ 31) (h : ex_I n c t tl hd ga ow sk step first last ne wa qu Q) : step ≤ 1122 := by
  obtain ⟨h1, _, _, _, h5⟩ := h
  have a := eg_sum_le (F := ex_F ne) n (fun v hv => by have := (h1 v hv).2; omega)
  have h6 : n ≤ 6 := hG.2.1
  omega
theorem ex_I_end {step first last : Nat} {ne wa qu : Nat → Int32} (h : ex_I n c t tl hd ga ow sk step first last ne wa qu []) : eg_Sol n c tl hd ga ow sk t (ex_F ne) :=
  ⟨h.1, fun v hv => h.2.2.2.1 v hv List.not_mem_nil, h.2.1⟩
theorem ex_I_keep {step first last v : Nat} {ne wa qu : Nat → Int32} {R : List Nat} (h : ex_I n c t tl hd ga ow sk step first last ne wa qu (v :: R))
    (hw : eg_W c tl hd ga sk (ow v) (nI v) t (ex_F ne) ≤ ex_F ne v) : ex_I n c t tl hd ga ow sk (step + 1) ((first + 1) % 8) last ne (upd wa v 0) qu R := by
  obtain ⟨h1, h2, h3, h4, h5⟩ := h
  refine ⟨h1, h2, eq_Q_pop h3, fun w hn hq => ?_, ?_⟩
  · by_cases z : w = v
    · rw [z]; exact hw
    · exact h4 w hn (fun a => (List.mem_cons.mp a).elim z hq)
  · rw [List.length_cons] at h5
    omega
theorem ex_F_us {ne : Nat → Int32} {v : Nat} {r : Int32} : ex_F (upd ne v r) v = r.toInt := congrArg Int32.toInt pk_us
theorem ex_F_un {ne : Nat → Int32} {v w : Nat} {r : Int32} (h : w ≠ v) : ex_F (upd ne v r) w = ex_F ne w := congrArg Int32.toInt (pk_un h)
theorem ex_raise {step first last v : Nat} {ne wa qu : Nat → Int32} {R : List Nat} {r : Int32} (hG : eg_G n c tl hd ga) (h : ex_I n c t tl hd ga ow sk step first last ne wa qu (v :: R))
    (hr : r.toInt = eg_W c tl hd ga sk (ow v) (nI v) t (ex_F ne)) (hlt : ex_F ne v < r.toInt) :
    eg_In n t (ex_F (upd ne v r)) ∧ eg_Low n c tl hd ga ow sk t (ex_F (upd ne v r)) ∧
      ex_C n c v 0 tl hd (fun w => eg_W c tl hd ga sk (ow w) (nI w) t (ex_F (upd ne v r)) ≤ ex_F (upd ne v r) w) R ∧
      eg_sum (ex_F ne) n + 1 ≤ eg_sum (ex_F (upd ne v r)) n := by
  obtain ⟨h1, h2, h3, h4, h5⟩ := h
  have hv : v < n := (eq_Q_hd h3).1
  have wi := eg_W_in (sk := sk) (p := ow v) (x := nI v) (T := (t : Int)) hG (by omega) h1
  refine ⟨fun w hw => ?_, fun G g1 g2 w hw => ?_, fun w hw hq => ?_, ?_⟩
  · by_cases z : w = v
    · rw [z, ex_F_us, hr]; exact wi
    · rw [ex_F_un z]; exact h1 w hw
  · by_cases z : w = v
    · rw [z, ex_F_us, hr]; exact eg_low_W hG h1 h2 g1 g2 hv
    · rw [ex_F_un z]; exact h2 G g1 g2 w hw
  · by_cases hx : ∃ k, 0 ≤ k ∧ k < c ∧ tl k = nI w ∧ hd k = nI v
    · exact Or.inr hx
    · refine Or.inl ?_
      have e : eg_W c tl hd ga sk (ow w) (nI w) t (ex_F (upd ne v r)) = eg_W c tl hd ga sk (ow w) (nI w) t (ex_F ne) := by
        refine eg_W_congr (fun k hk ek => ex_F_un (fun q => hx ⟨k, Nat.zero_le _, hk, ek, ?_⟩))
        obtain ⟨_, h6, _, _, hh, _⟩ := hG
        obtain ⟨j, hj, ej⟩ := hh k
        rw [ej, nI_clamp (by omega)] at q
        rw [ej, q]
      show eg_W c tl hd ga sk (ow w) (nI w) t (ex_F (upd ne v r)) ≤ ex_F (upd ne v r) w
      rw [e]
      by_cases z : w = v
      · rw [z, ex_F_us, hr]; exact Int.le_refl _
      · rw [ex_F_un z]; exact h4 w hw (fun a => (List.mem_cons.mp a).elim z hq)
  · refine eg_sum_lt n (fun w hw => ?_) ⟨v, hv, by rw [ex_F_us]; exact hlt⟩
    by_cases z : w = v
    · rw [z, ex_F_us]; omega
    · rw [ex_F_un z]; exact Int.le_refl _
theorem ex_s116 (hG : eg_G n c tl hd ga) {post : SX → Prop} {J : Int32 → Int32 → Int32 → (Nat → Int32) → (Nat → Int32) → (Nat → Int32) → (Nat → Int32) → (Nat → Int32) → (Nat → Int32) → (Nat → Int32) → Prop}
    {first v : Nat} {x3 : Int32} {Pw : Nat → Prop} {ne : Nat → Int32}
    (K : ∀ (last' : Nat) (wa' qu' : Nat → Int32) (Q' : List Nat), eq_Q n first last' qu' wa' Q' → (∀ w, w < n → ¬ w ∈ Q' → Pw w) → J (nI first) (nI last') (x3 + 1) tl hd ga ow ne wa' qu') :
    ∀ (m e last : Nat) (wa qu : Nat → Int32) (Q : List Nat), c < e + m → e ≤ c → eq_Q n first last qu wa Q → ex_C n c v e tl hd Pw Q →
      wX_solve_116 post J (nI first) x3 (nI v) (nI n) (nI c) (nI t) sk cu m (nI last) (nI e) tl hd ga ow ne wa qu := by
  have h6 : n ≤ 6 := hG.2.1
  have h14 : c ≤ 14 := hG.2.2.1
  intro m
  induction m with
  | zero => intro e last wa qu Q h1 h2; exact absurd h1 (by omega)
  | succ m ih =>
    intro e last wa qu Q h1 h2 hQ hC
    by_cases z : e = c
    · exact br_t (nI_le (by omega) (by omega)) (nm_e (K last wa qu Q hQ (ex_C_end hC (by omega))))
    · have ec : (nI e).toNatClampNeg = e := nI_clamp (by omega)
      have nx : nI e + 1 = nI (e + 1) := nI_1 e
      obtain ⟨u, hu, eu⟩ := hG.2.2.2.1 e
      have uc : (nI u).toNatClampNeg = u := nI_clamp (by omega)
      have vi : vp_in (nI e) 14 := vp_in_nI (by omega) (by decide)
      have vu : vp_in (nI u) 6 := vp_in_nI (by omega) (by decide)
      have l8 : last < 8 := by have := hQ.2.2.2.1; omega
      refine br_f (nI_ge (by omega) (by omega)) ⟨vi, ?_⟩
      rw [ec, eu, uc, ex_m7 l8, ex_m7s l8, nI_clamp (show last < 2 ^ 31 by omega), ex_b1]
      refine br_c (fun g1 => ⟨vi, vu, br_c (fun g2 => ⟨vi, vu, nm_e ⟨vi, vp_in_nI l8 (by decide), nm_e (nm_e (nm_r nx ?_))⟩⟩) (fun g2 => nm_r nx ?_)⟩) (fun g1 => nm_r nx ?_)
      · exact ih (e + 1) _ _ _ (Q ++ [u]) (by omega) (by omega) (eq_Q_push h6 hQ hu g2)
          (ex_C_in h6 hu (ex_C_up hC (fun w hw => List.mem_append.mpr (Or.inl hw))) eu (List.mem_append.mpr (Or.inr (List.mem_singleton.mpr rfl))))
      · refine ih (e + 1) _ _ _ Q (by omega) (by omega) hQ (ex_C_in h6 hu hC eu ?_)
        have q := hQ.2.2.2.2.2 u hu
        exact Classical.byContradiction (fun a => g2 (q.mpr a))
      · exact ih (e + 1) _ _ _ Q (by omega) (by omega) hQ (ex_C_skip hC g1)
theorem ex_s46 (hG : eg_G n c tl hd ga) (ht : t ≤ 31) {post : SX → Prop}
    (K : ∀ ne' wa' qu' : Nat → Int32, eg_Sol n c tl hd ga ow sk t (ex_F ne') → post (nI n, nI c, nI t, sk, cu, tl, hd, ga, ow, ne', wa', qu')) :
    ∀ (m step first last : Nat) (ne wa qu : Nat → Int32) (Q : List Nat), 1200 < step + m → ex_I n c t tl hd ga ow sk step first last ne wa qu Q →
      wX_solve_46 post (nI n) (nI c) (nI t) sk cu m (nI first) (nI last) (nI step) tl hd ga ow ne wa qu := by
  have h6 : n ≤ 6 := hG.2.1
  intro m
  induction m with
  | zero => intro step first last ne wa qu Q h1 hI; have := ex_I_bound hG ht hI; exact absurd h1 (by omega)
  | succ m ih =>
    intro step first last ne wa qu Q h1 hI
    have hb := ex_I_bound hG ht hI
    have hQ := hI.2.2.1
    have f8 : first < 8 := hQ.2.2.1
    have l8 : last < 8 := by have := hQ.2.2.2.1; omega
    have nx : nI step + 1 = nI (step + 1) := nI_1 step
    refine br_f (nI_ge (b := 1200) (by omega) (by decide)) ?_
    by_cases z : first = last
    · refine br_t (congrArg nI z) ?_
      have q := eq_Q_emp h6 hQ z
      subst q
      exact K ne wa qu (ex_I_end hI)
    · refine br_f (fun q => z ((nI_eq (by omega) (by omega)).mp q)) ?_
      obtain ⟨v, R, rfl⟩ := eq_Q_cons hQ z
      obtain ⟨hv, ev⟩ := eq_Q_hd hQ
      have vc : (nI v).toNatClampNeg = v := nI_clamp (by omega)
      have vv : vp_in (nI v) 6 := vp_in_nI (by omega) (by decide)
      rw [ex_m7 f8, ex_m7s f8, nI_clamp (show first < 2 ^ 31 by omega), ev]
      refine ⟨vp_in_nI f8 (by decide), nm_e (nm_e ⟨vv, ?_⟩)⟩
      rw [vc, ex_b0]
      refine nm_e (ex_wantedAt hG ht hI.1 hv (fun r hr => ⟨vv, br_c (fun g => nm_r nx ?_) (fun g => ⟨vv, nm_e ?_⟩)⟩))
      · refine ih (step + 1) _ _ _ _ _ R (by omega) (ex_I_keep hI ?_)
        rw [← hr]
        exact ei_le.mp g
      · have hlt : ex_F ne v < r.toInt := by
          have g' : ¬ r.toInt ≤ (ne v).toInt := fun w => g (ei_le.mpr w)
          show (ne v).toInt < r.toInt
          omega
        obtain ⟨a1, a2, a3, a4⟩ := ex_raise hG hI hr hlt
        refine ⟨c + 1, ex_s116 hG (fun last' wa' qu' Q' b1 b2 => ?_) (c + 1) 0 last _ _ R (by omega) (by omega) (eq_Q_pop hQ) a3⟩
        rw [nx]
        refine ih (step + 1) _ _ _ _ _ Q' (by omega) ⟨a1, a2, b1, b2, ?_⟩
        have l1 := eq_Q_len b1
        have l2 := hI.2.2.2.2
        rw [List.length_cons] at l2
        omega
theorem ex_s6 (hG : eg_G n c tl hd ga) (ht : t ≤ 31) {post : SX → Prop}
    (K : ∀ ne' wa' qu' : Nat → Int32, eg_Sol n c tl hd ga ow sk t (ex_F ne') → post (nI n, nI c, nI t, sk, cu, tl, hd, ga, ow, ne', wa', qu')) :
    ∀ (m i : Nat) (ne wa qu : Nat → Int32), n < i + m → i ≤ n → (∀ v, v < i → ne v = 0 ∧ qu v = nI v ∧ wa v = 1) →
      wX_solve_6 post 0 (nI n) (nI c) (nI t) sk cu m (nI i) (nI i) tl hd ga ow ne wa qu := by
  have h6 : n ≤ 6 := hG.2.1
  intro m
  induction m with
  | zero => intro i ne wa qu h1 h2; exact absurd h1 (by omega)
  | succ m ih =>
    intro i ne wa qu h1 h2 h3
    by_cases z : i = n
    · subst z
      refine br_t (nI_le (Nat.le_refl _) (by omega)) ⟨1201, ?_⟩
      have z0 : ∀ v, v < i → ex_F ne v = 0 := fun v hv => by show (ne v).toInt = 0; rw [(h3 v hv).1, ei_0]
      have s0 := eg_sum_nn (F := ex_F ne) i (fun v hv => by rw [z0 v hv]; exact Int.le_refl _)
      have qi := eq_Q_init h6 (fun v hv => (h3 v hv).2)
      refine ex_s46 hG ht K 1201 0 0 i ne wa qu (List.range i) (by omega) ⟨fun v hv => ?_, fun G g1 g2 v hv => ?_, qi, fun w hw hq => ?_, ?_⟩
      · rw [z0 v hv]; omega
      · rw [z0 v hv]; exact (g1 v hv).1
      · exact absurd (List.mem_range.mpr hw) hq
      · rw [List.length_range]; omega
    · have ic : (nI i).toNatClampNeg = i := nI_clamp (by omega)
      have nx : nI i + 1 = nI (i + 1) := nI_1 i
      have v6 : vp_in (nI i) 6 := vp_in_nI (by omega) (by decide)
      refine br_f (nI_ge (by omega) (by omega)) ⟨v6, ?_⟩
      rw [ic, ex_b1]
      refine nm_e ⟨v6, nm_e ⟨vp_in_nI (by omega) (by decide), nm_e (nm_r nx (nm_r nx ?_))⟩⟩
      refine ih (i + 1) _ _ _ (by omega) (by omega) (fun v hv => ?_)
      by_cases y : v = i
      · rw [y]; exact ⟨pk_us, pk_us, pk_us⟩
      · rw [pk_un y, pk_un y, pk_un y]; exact h3 v (by omega)
theorem ex_solve (hG : eg_G n c tl hd ga) (ht : t ≤ 31) {post : SX → Prop} {ne wa qu : Nat → Int32}
    (K : ∀ ne' wa' qu' : Nat → Int32, eg_Sol n c tl hd ga ow sk t (ex_F ne') → post (nI n, nI c, nI t, sk, cu, tl, hd, ga, ow, ne', wa', qu')) :
    wpX_solve post (nI n, nI c, nI t, sk, cu, tl, hd, ga, ow, ne, wa, qu) :=
  ⟨n + 1, ex_s6 hG ht K (n + 1) 0 ne wa qu (by omega) (by omega) (fun v hv => absurd hv (by omega))⟩
end
end
section
/-! the reference: asks, next, work -/
theorem ey_top {n : Nat} (h : 2 ≤ n) : 6 * (nI n - 1) = nI (6 * (n - 1)) := by
  have a : nI n - 1 = nI (n - 1) := pk_sub (a := n) (b := 1) (by omega)
  rw [a]
  exact pk_mul 6 (n - 1)
def ey_N (n t : Nat) (F : Nat → Int) (now : Nat → Int32) : Prop := ∀ v, v < n → (now v).toInt = eg_en t (F v)
def ey_P (x1 x2 : Int32) (ow : Nat → Int32) : Nat → Int32 := fun v => if nI v = x1 then x2 else ow v
def ey_M (v : Nat) (x4 : Int32) (H F : Nat → Int) : Prop := (x4 = 0 ∧ ∀ w, w < v → H w = F w) ∨ (¬ x4 = 0 ∧ ∃ w, w < v ∧ H w ≠ F w)
theorem ey_M_0 {H F : Nat → Int} : ey_M 0 0 H F := Or.inl ⟨rfl, fun w hw => absurd hw (by omega)⟩
theorem ey_M_eq {v : Nat} {x4 : Int32} {H F : Nat → Int} (h : ey_M v x4 H F) (e : H v = F v) : ey_M (v + 1) x4 H F := by
  rcases h with ⟨h1, h2⟩ | ⟨h1, w, h2, h3⟩
  · refine Or.inl ⟨h1, fun w hw => ?_⟩
    by_cases z : w = v
    · rw [z]; exact e
    · exact h2 w (by omega)
  · exact Or.inr ⟨h1, w, by omega, h3⟩
theorem ey_M_ne {v : Nat} {H F : Nat → Int} (e : ¬ H v = F v) : ey_M (v + 1) 1 H F := Or.inr ⟨by decide, v, by omega, e⟩
section
variable {n c t : Nat} {tl hd ga ow now lat : Nat → Int32} {F : Nat → Int}
theorem ey_asks (hG : eg_G n c tl hd ga) (ht : t = 6 * (n - 1) + 1) {e : Nat} (he : e < 14) (hF : eg_In n t F) (hN : ey_N n t F now) {post : Int32 → Prop}
    (K : ∀ r : Int32, r.toInt = eg_en t (eg_ask t (F (hd e).toNatClampNeg) (ga e).toInt) → post r) :
    wpY_asks post (nI n, nI c, ow, tl, hd, ga, now, lat) (nI e) := by
  have hh := eg_G_hd hG e
  obtain ⟨h2, h6, h14, _, hhd, hga⟩ := hG
  obtain ⟨h, hn, eh⟩ := hhd e
  have ec : (nI e).toNatClampNeg = e := nI_clamp (by omega)
  have vi : vp_in (nI e) 14 := vp_in_nI he (by decide)
  have vh : vp_in (hd e) 8 := by rw [eh]; exact vp_in_nI (by omega) (by decide)
  have hx := hF _ hh
  have hm := hN _ hh
  have hg := hga e
  have T1 : (nI (6 * (n - 1))).toInt = (t : Int) - 1 := by rw [nI_toInt (by omega)]; omega
  unfold wpY_asks
  dsimp only
  rw [ec, ey_top h2]
  generalize F (hd e).toNatClampNeg = X at K hx hm
  generalize now (hd e).toNatClampNeg = x at hm
  refine ⟨vi, vh, br_c (fun h1 => K _ ?_) (fun h1 => ⟨vi, vh, vi, fun y ey => ?_⟩)⟩
  · rw [ei_eq, ei_99, hm, eg_en_99 hx.2 (by omega)] at h1
    unfold eg_ask
    rw [if_pos h1, ei_99]
    exact ((eg_en_99 (Int.le_refl _) (by omega)).mpr rfl).symm
  · rw [ei_eq, ei_99, hm, eg_en_99 hx.2 (by omega)] at h1
    have xl : X < t := by omega
    rw [eg_en_lt xl] at hm
    have sy : y.toInt = X - (ga e).toInt := by rw [ey, ← hm]; exact Jvm.Kit.i32_sub (by omega) (by omega)
    refine br_c (fun h2 => br_c (fun h3 => K _ ?_) (fun h3 => K _ ?_)) (fun h2 => K _ ?_)
    · rw [ei_p0, sy] at h2
      rw [ei_le, T1, sy] at h3
      unfold eg_ask
      rw [if_neg h1, if_neg (by omega), if_pos (by omega), sy]
      exact (eg_en_lt (by omega)).symm
    · rw [ei_p0, sy] at h2
      rw [ei_le, T1, sy] at h3
      unfold eg_ask
      rw [if_neg h1, if_neg (by omega), if_neg (by omega), ei_99]
      exact ((eg_en_99 (Int.le_refl _) (by omega)).mpr rfl).symm
    · rw [ei_p0, sy] at h2
      unfold eg_ask
      rw [if_neg h1, if_pos (by omega), ei_0]
      exact (eg_en_lt (by omega)).symm
theorem ey_100 (ht : 0 < t) {p x sk : Int32} {post : Int32 → Prop} (K : ∀ r : Int32, r.toInt = eg_en t (eg_W c tl hd ga sk p x t F) → post r)
    {x4 a b : Int32} (h3 : x4.toInt = eg_en t (eg_fo tl hd ga sk p x t F c)) : wY_next_100 post x4 a b ow tl hd ga now lat := by
  have q := eg_en_neg (T := (t : Int)) (r := eg_fo tl hd ga sk p x t F c) (by omega)
  refine br_c (fun h => K _ ?_) (fun h => K _ ?_)
  · rw [ei_p0, h3] at h
    unfold eg_W
    rw [if_neg (by omega), h3]
  · rw [ei_p0, h3] at h
    unfold eg_W
    rw [if_pos (by omega), ei_0]
    exact (eg_en_lt (by omega)).symm
theorem ey_n6 (hG : eg_G n c tl hd ga) (ht : t = 6 * (n - 1) + 1) (hF : eg_In n t F) (hN : ey_N n t F now) {v : Nat} {p sk : Int32} {post : Int32 → Prop}
    (K : ∀ r : Int32, r.toInt = eg_en t (eg_W c tl hd ga sk p (nI v) t F) → post r) :
    ∀ (m e : Nat) (x4 : Int32), c < e + m → e ≤ c → x4.toInt = eg_en t (eg_fo tl hd ga sk p (nI v) t F e) →
      wY_next_6 post (nI v) p sk (nI n) (nI c) ow tl hd ga now lat m x4 (nI e) := by
  have h2 : 2 ≤ n := hG.1
  have h6 : n ≤ 6 := hG.2.1
  have h14 : c ≤ 14 := hG.2.2.1
  intro m
  induction m with
  | zero => intro e x4 g1 g2; exact absurd g1 (by omega)
  | succ m ih =>
    intro e x4 g1 g2 g3
    by_cases z : e = c
    · rw [z] at g3
      exact br_t (nI_le (by omega) (by omega)) (ey_100 (by omega) K g3)
    · have ec : (nI e).toNatClampNeg = e := nI_clamp (by omega)
      have nx : nI e + 1 = nI (e + 1) := nI_1 e
      refine br_f (nI_ge (by omega) (by omega)) (br_f (nI_ge (b := 14) (by omega) (by decide)) ⟨vp_in_nI (by omega) (by decide), ?_⟩)
      rw [ec]
      refine br_c (fun k1 => br_c (fun k2 => nm_r nx (ih (e + 1) x4 (by omega) (by omega) (by rw [eg_fo_s k2]; exact g3)))
        (fun k2 => ey_asks hG ht (by omega) hF hN (fun r hr => ?_))) (fun k1 => nm_r nx (ih (e + 1) x4 (by omega) (by omega) (by rw [eg_fo_f k1]; exact g3)))
      have fi := eg_fo_in (sk := sk) (p := p) (x := nI v) (T := (t : Int)) hG (by omega) hF e
      have a := hF _ (eg_G_hd hG e)
      have b := eg_ask_in (g := (ga e).toInt) a.1 a.2
      have pe := eg_en_pk (p := p) fi.1 fi.2 b.1 b.2 (by omega) (by omega)
      rw [← g3, ← hr, ← eg_fo_t k1 k2] at pe
      have goA : eg_pk p x4.toInt r.toInt = r.toInt → wY_next_6 post (nI v) p sk (nI n) (nI c) ow tl hd ga now lat m r (nI e + 1) := by
        intro q
        rw [nx]
        exact ih (e + 1) r (by omega) (by omega) (q.symm.trans pe)
      have goX : eg_pk p x4.toInt r.toInt = x4.toInt → wY_next_6 post (nI v) p sk (nI n) (nI c) ow tl hd ga now lat m x4 (nI e + 1) := by
        intro q
        rw [nx]
        exact ih (e + 1) x4 (by omega) (by omega) (q.symm.trans pe)
      have A : x4 < 0 → eg_pk p x4.toInt r.toInt = r.toInt := fun w => eg_pk_p (ei_n0.mp w)
      have B : ¬ x4 < 0 → ¬ x4.toInt < 0 := fun w w' => w (ei_n0.mpr w')
      refine br_c (fun p0 => br_c (fun l => ?_) (fun l => ?_)) (fun p0 => br_c (fun l => ?_) (fun l => ?_))
      · exact br_c (fun w => nm_e (goA (A w))) (fun w => br_t rfl (nm_e (goX (eg_pk_0r (B w) p0 (ei_le.mp l)))))
      · exact br_c (fun w => nm_e (goA (A w))) (fun w => br_f (by decide) (nm_e (goA (eg_pk_0a (B w) p0 (fun q => l (ei_le.mpr q))))))
      · exact br_c (fun w => nm_e (goA (A w))) (fun w => br_t rfl (nm_e (goX (eg_pk_1r (B w) p0 (ei_le.mp l)))))
      · exact br_c (fun w => nm_e (goA (A w))) (fun w => br_f (by decide) (nm_e (goA (eg_pk_1a (B w) p0 (fun q => l (ei_le.mpr q))))))
theorem ey_next (hG : eg_G n c tl hd ga) (ht : t = 6 * (n - 1) + 1) (hF : eg_In n t F) (hN : ey_N n t F now) {v : Nat} {p sk : Int32} {post : Int32 → Prop}
    (K : ∀ r : Int32, r.toInt = eg_en t (eg_W c tl hd ga sk p (nI v) t F) → post r) :
    wpY_next post (nI n, nI c, ow, tl, hd, ga, now, lat) (nI v) p sk :=
  ⟨c + 1, ey_n6 hG ht hF hN K (c + 1) 0 (-1) (by omega) (by omega) (by rw [ei_m1]; exact (eg_en_lt (show (-1 : Int) < t by omega)).symm)⟩
end
section
variable {n c t : Nat} {x1 x2 x3 : Int32} {tl hd ga ow : Nat → Int32}
theorem ey_w129 {post : SY → Prop} {J : Int32 → Int32 → (Nat → Int32) → (Nat → Int32) → (Nat → Int32) → (Nat → Int32) → (Nat → Int32) → (Nat → Int32) → Prop} {x4 x5 : Int32} {lat : Nat → Int32}
    (K : ∀ now' : Nat → Int32, (∀ v, v < 8 → now' v = lat v) → J x4 (x5 + 1) ow tl hd ga now' lat) :
    ∀ (m i : Nat) (now : Nat → Int32), 8 < i + m → i ≤ 8 → (∀ v, v < i → now v = lat v) →
      wY_work_129 post J x1 x2 x3 x4 x5 (nI n) (nI c) m (nI i) ow tl hd ga now lat := by
  intro m
  induction m with
  | zero => intro i now g1 g2; exact absurd g1 (by omega)
  | succ m ih =>
    intro i now g1 g2 g3
    by_cases z : i = 8
    · rw [z] at g3
      exact br_t (nI_le (a := 8) (by omega) (by omega)) (nm_e (K now g3))
    · have v8 : vp_in (nI i) 8 := vp_in_nI (by omega) (by decide)
      refine br_f (nI_ge (b := 8) (by omega) (by decide)) ⟨v8, v8, nm_e (nm_r (nI_1 i) ?_)⟩
      rw [nI_clamp (show i < 2 ^ 31 by omega)]
      refine ih (i + 1) _ (by omega) (by omega) (fun v hv => ?_)
      by_cases y : v = i
      · rw [y]; exact pk_us
      · rw [pk_un y]; exact g3 v (by omega)
theorem ey_w49 (hG : eg_G n c tl hd ga) (ht : t = 6 * (n - 1) + 1) {F : Nat → Int} (hF : eg_In n t F) {now : Nat → Int32} (hN : ey_N n t F now)
    {post : SY → Prop} {J : Int32 → Int32 → (Nat → Int32) → (Nat → Int32) → (Nat → Int32) → (Nat → Int32) → (Nat → Int32) → (Nat → Int32) → Prop} {x5 : Int32}
    (K : ∀ (x4 : Int32) (now' lat' : Nat → Int32), ey_N n t (fun w => eg_W c tl hd ga x3 (ey_P x1 x2 ow w) (nI w) t F) now' →
      ey_M n x4 (fun w => eg_W c tl hd ga x3 (ey_P x1 x2 ow w) (nI w) t F) F → J x4 (x5 + 1) ow tl hd ga now' lat') :
    ∀ (m v : Nat) (x4 : Int32) (lat : Nat → Int32), n < v + m → v ≤ n → ey_N v t (fun w => eg_W c tl hd ga x3 (ey_P x1 x2 ow w) (nI w) t F) lat →
      ey_M v x4 (fun w => eg_W c tl hd ga x3 (ey_P x1 x2 ow w) (nI w) t F) F →
      wY_work_49 post J x1 x2 x3 x5 (nI n) (nI c) m x4 (nI v) ow tl hd ga now lat := by
  have h2 : 2 ≤ n := hG.1
  have h6 : n ≤ 6 := hG.2.1
  intro m
  induction m with
  | zero => intro v x4 lat g1 g2; exact absurd g1 (by omega)
  | succ m ih =>
    intro v x4 lat g1 g2 g3 g4
    by_cases z : v = n
    · rw [z] at g3 g4
      exact br_t (nI_le (by omega) (by omega)) ⟨9, ey_w129 (fun now' hn' => K x4 now' lat (fun w hw => by rw [hn' w (by omega)]; exact g3 w hw) g4) 9 0 now (by omega) (by omega) (fun w hw => absurd hw (by omega))⟩
    · have vc : (nI v).toNatClampNeg = v := nI_clamp (by omega)
      have v8 : vp_in (nI v) 8 := vp_in_nI (by omega) (by decide)
      have wi := eg_W_in (sk := x3) (p := ey_P x1 x2 ow v) (x := nI v) (T := (t : Int)) hG (by omega) hF
      have fi := hF v (by omega)
      have step : ∀ p : Int32, p = ey_P x1 x2 ow v → wY_work_82 post J (wY_work_49 post J x1 x2 x3 x5 (nI n) (nI c) m) x1 x2 x3 x4 x5 (nI v) p (nI n) (nI c) ow tl hd ga now lat := by
        intro p hp
        subst hp
        refine ey_next hG ht hF hN (fun r hr => ⟨v8, nm_e ⟨v8, v8, ?_⟩⟩)
        rw [vc, pk_us]
        have nn : ey_N (v + 1) t (fun w => eg_W c tl hd ga x3 (ey_P x1 x2 ow w) (nI w) t F) (upd lat v r) := by
          intro w hw
          by_cases y : w = v
          · rw [y, pk_us]; exact hr
          · rw [pk_un y]; exact g3 w (by omega)
        have hv := hN v (by omega)
        refine br_c (fun q => nm_r (nI_1 v) ?_) (fun q => nm_r (nI_1 v) ?_)
        · refine ih (v + 1) x4 _ (by omega) (by omega) nn (ey_M_eq g4 ?_)
          rw [ei_eq, hr, hv] at q
          exact (eg_en_inj wi.2 fi.2 (by omega)).mp q
        · refine ih (v + 1) 1 _ (by omega) (by omega) nn (ey_M_ne (fun w => q ?_))
          rw [ei_eq, hr, hv]
          exact congrArg (eg_en t) w
      refine br_f (nI_ge (by omega) (by omega)) (br_f (nI_ge (b := 6) (by omega) (by decide)) (br_c (fun q => ?_) (fun q => ⟨v8, ?_⟩)))
      · exact step x2 (if_pos q).symm
      · rw [vc]
        exact step (ow v) (if_neg q).symm
def ey_I (n c t : Nat) (tl hd ga P : Nat → Int32) (sk : Int32) (round : Nat) (x4 : Int32) (F : Nat → Int) (now : Nat → Int32) : Prop :=
  eg_In n t F ∧ (∀ v, v < n → F v ≤ eg_W c tl hd ga sk (P v) (nI v) t F) ∧ eg_Low n c tl hd ga P sk t F ∧ ey_N n t F now ∧
    ((x4 = 0 ∧ (∀ v, v < n → eg_W c tl hd ga sk (P v) (nI v) t F = F v) ∧ (round : Int) ≤ eg_sum F n + 1) ∨ (¬ x4 = 0 ∧ (round : Int) ≤ eg_sum F n))
theorem ey_I_bound {P now : Nat → Int32} {sk x4 : Int32} {round : Nat} {F : Nat → Int} (h6 : n ≤ 6) (ht : t ≤ 31) (h : ey_I n c t tl hd ga P sk round x4 F now) : round ≤ 187 := by
  obtain ⟨h1, _, _, _, h5⟩ := h
  have a := eg_sum_le (F := F) n (fun v hv => by have := (h1 v hv).2; omega)
  rcases h5 with ⟨_, _, b⟩ | ⟨_, b⟩ <;> omega
theorem ey_I_end {P now : Nat → Int32} {sk x4 : Int32} {round : Nat} {F : Nat → Int} (h : ey_I n c t tl hd ga P sk round x4 F now) (h0 : x4 = 0) : eg_Sol n c tl hd ga P sk t F := by
  obtain ⟨h1, _, h3, _, h5⟩ := h
  rcases h5 with ⟨_, b, _⟩ | ⟨b, _⟩
  · exact ⟨h1, fun v hv => by rw [b v hv]; exact Int.le_refl _, h3⟩
  · exact absurd h0 b
theorem ey_I_step {P now now' : Nat → Int32} {sk x4 x4' : Int32} {round : Nat} {F : Nat → Int} (hG : eg_G n c tl hd ga) (h : ey_I n c t tl hd ga P sk round x4 F now) (h0 : ¬ x4 = 0)
    (hn : ey_N n t (fun w => eg_W c tl hd ga sk (P w) (nI w) t F) now') (hm : ey_M n x4' (fun w => eg_W c tl hd ga sk (P w) (nI w) t F) F) :
    ey_I n c t tl hd ga P sk (round + 1) x4' (fun w => eg_W c tl hd ga sk (P w) (nI w) t F) now' := by
  obtain ⟨h1, h2, h3, _, h5⟩ := h
  have hr : (round : Int) ≤ eg_sum F n := by
    rcases h5 with ⟨b, _⟩ | ⟨_, b⟩
    · exact absurd b h0
    · exact b
  have i1 : eg_In n t (fun w => eg_W c tl hd ga sk (P w) (nI w) t F) := fun w _ => eg_W_in hG (by omega) h1
  refine ⟨i1, fun v hv => eg_W_mono hG h1 i1 h2, fun G g1 g2 v hv => eg_low_W hG h1 h3 g1 g2 hv, hn, ?_⟩
  rcases hm with ⟨a, b⟩ | ⟨a, w, hw, b⟩
  · refine Or.inl ⟨a, fun v hv => eg_W_congr (fun e he _ => b _ (eg_G_hd hG e)), ?_⟩
    have s := eg_sum_mono n h2
    omega
  · have b' : eg_W c tl hd ga sk (P w) (nI w) t F ≠ F w := b
    have l := h2 w hw
    have s := eg_sum_lt n h2 ⟨w, hw, by omega⟩
    exact Or.inr ⟨a, by omega⟩
theorem ey_w30 (hG : eg_G n c tl hd ga) (ht : t = 6 * (n - 1) + 1) {post : SY → Prop}
    (K : ∀ (now' lat' : Nat → Int32) (F : Nat → Int), eg_Sol n c tl hd ga (ey_P x1 x2 ow) x3 t F → ey_N n t F now' → post (nI n, nI c, ow, tl, hd, ga, now', lat')) :
    ∀ (m round : Nat) (x4 : Int32) (F : Nat → Int) (now lat : Nat → Int32), 700 < round + m → ey_I n c t tl hd ga (ey_P x1 x2 ow) x3 round x4 F now →
      wY_work_30 post x1 x2 x3 (nI n) (nI c) m x4 (nI round) ow tl hd ga now lat := by
  have h2 : 2 ≤ n := hG.1
  have h6 : n ≤ 6 := hG.2.1
  intro m
  induction m with
  | zero => intro round x4 F now lat g1 g2; have := ey_I_bound h6 (by omega) g2; exact absurd g1 (by omega)
  | succ m ih =>
    intro round x4 F now lat g1 g2
    have hb := ey_I_bound h6 (by omega) g2
    refine br_f (nI_ge (b := 700) (by omega) (by decide)) (br_c (fun z => K now lat F (ey_I_end g2 z) g2.2.2.2.1) (fun z => ⟨n + 1, ?_⟩))
    refine ey_w49 hG ht g2.1 g2.2.2.2.1 (fun x4' now' lat' a b => ?_) (n + 1) 0 0 lat (by omega) (by omega) (fun w hw => absurd hw (by omega)) ey_M_0
    rw [nI_1]
    exact ih (round + 1) x4' _ now' lat' (by omega) (ey_I_step hG g2 z a b)
theorem ey_w3 (hG : eg_G n c tl hd ga) (ht : t = 6 * (n - 1) + 1) {post : SY → Prop} {lat : Nat → Int32}
    (K : ∀ (now' lat' : Nat → Int32) (F : Nat → Int), eg_Sol n c tl hd ga (ey_P x1 x2 ow) x3 t F → ey_N n t F now' → post (nI n, nI c, ow, tl, hd, ga, now', lat')) :
    ∀ (m i : Nat) (now : Nat → Int32), 8 < i + m → i ≤ 8 → (∀ v, v < i → now v = 0) →
      wY_work_3 post x1 x2 x3 (nI n) (nI c) m (nI i) ow tl hd ga now lat := by
  have h2 : 2 ≤ n := hG.1
  have h6 : n ≤ 6 := hG.2.1
  intro m
  induction m with
  | zero => intro i now g1 g2; exact absurd g1 (by omega)
  | succ m ih =>
    intro i now g1 g2 g3
    by_cases z : i = 8
    · rw [z] at g3
      refine br_t (nI_le (a := 8) (by omega) (by omega)) ⟨701, ?_⟩
      have i0 : eg_In n t (fun _ => 0) := fun v hv => ⟨Int.le_refl _, by show (0 : Int) ≤ t; omega⟩
      have s0 := eg_sum_nn (F := fun _ => 0) n (fun v hv => Int.le_refl _)
      refine ey_w30 hG ht K 701 0 1 (fun _ => 0) now lat (by omega) ⟨i0, fun v hv => (eg_W_in hG (by omega) i0).1, fun G g1 g2 v hv => (g1 v hv).1, fun v hv => ?_, Or.inr ⟨by decide, s0⟩⟩
      rw [g3 v (by omega), ei_0]
      exact (eg_en_lt (show (0 : Int) < t by omega)).symm
    · refine br_f (nI_ge (b := 8) (by omega) (by decide)) ⟨vp_in_nI (by omega) (by decide), nm_e (nm_r (nI_1 i) ?_)⟩
      rw [nI_clamp (show i < 2 ^ 31 by omega)]
      refine ih (i + 1) _ (by omega) (by omega) (fun v hv => ?_)
      by_cases y : v = i
      · rw [y]; exact pk_us
      · rw [pk_un y]; exact g3 v (by omega)
theorem ey_work (hG : eg_G n c tl hd ga) (ht : t = 6 * (n - 1) + 1) {post : SY → Prop} {now lat : Nat → Int32}
    (K : ∀ (now' lat' : Nat → Int32) (F : Nat → Int), eg_Sol n c tl hd ga (ey_P x1 x2 ow) x3 t F → ey_N n t F now' → post (nI n, nI c, ow, tl, hd, ga, now', lat')) :
    wpY_work post (nI n, nI c, ow, tl, hd, ga, now, lat) x1 x2 x3 :=
  ⟨9, ey_w3 hG ht K 9 0 now (by omega) (by omega) (fun v hv => absurd hv (by omega))⟩
end
end
section
/-! the tests of arguments, and the loops of link and cut -/
section
variable {n c : Nat} {tp sk cu : Int32} {tl hd ga ow ne wa qu now lat : Nat → Int32} {post : Int32 → Prop}
theorem er_xv_t {v : Nat} (h6 : n ≤ 6) (hv : v < n) (h : post 1) : wpX_isVertex post (nI n, nI c, tp, sk, cu, tl, hd, ga, ow, ne, wa, qu) (nI v) :=
  br_f (nI_pos (by omega)) (br_f (nI_ge hv (by omega)) h)
theorem er_xv_f {x : Int32} (hx : x < 0 ∨ nI n ≤ x) (h : post 0) : wpX_isVertex post (nI n, nI c, tp, sk, cu, tl, hd, ga, ow, ne, wa, qu) x := by
  refine br_c (fun _ => h) (fun a => ?_)
  rcases hx with b | b
  · exact absurd b a
  · exact br_t b h
theorem er_yv_t {v : Nat} (h6 : n ≤ 6) (hv : v < n) (h : post 0) : wpY_bad post (nI n, nI c, ow, tl, hd, ga, now, lat) (nI v) :=
  br_f (nI_pos (by omega)) (br_f (nI_ge hv (by omega)) (br_t (nI_le (b := 5) (by omega) (by decide)) h))
theorem er_yv_f {x : Int32} (hx : x < 0 ∨ nI n ≤ x) (h : post 1) : wpY_bad post (nI n, nI c, ow, tl, hd, ga, now, lat) x := by
  refine br_c (fun _ => h) (fun a => ?_)
  rcases hx with b | b
  · exact absurd b a
  · exact br_t b h
theorem er_xe_t {v : Nat} (h6 : c ≤ 14) (hv : v < c) (h : post 1) : wpX_isEdge post (nI n, nI c, tp, sk, cu, tl, hd, ga, ow, ne, wa, qu) (nI v) :=
  br_f (nI_pos (by omega)) (br_f (nI_ge hv (by omega)) h)
theorem er_xe_f {x : Int32} (hx : x < 0 ∨ nI c ≤ x) (h : post 0) : wpX_isEdge post (nI n, nI c, tp, sk, cu, tl, hd, ga, ow, ne, wa, qu) x := by
  refine br_c (fun _ => h) (fun a => ?_)
  rcases hx with b | b
  · exact absurd b a
  · exact br_t b h
theorem er_ye_t {v : Nat} (h6 : c ≤ 14) (hv : v < c) (h : post 0) : wpY_badEdge post (nI n, nI c, ow, tl, hd, ga, now, lat) (nI v) :=
  br_f (nI_pos (by omega)) (br_f (nI_ge hv (by omega)) (br_t (nI_le (b := 13) (by omega) (by decide)) h))
theorem er_ye_f {x : Int32} (hx : x < 0 ∨ nI c ≤ x) (h : post 1) : wpY_badEdge post (nI n, nI c, ow, tl, hd, ga, now, lat) x := by
  refine br_c (fun _ => h) (fun a => ?_)
  rcases hx with b | b
  · exact absurd b a
  · exact br_t b h
theorem er_yg_t {x : Int32} (h1 : ¬ x < (-6)) (h2 : x ≤ 6) (h : post 0) : wpY_badGain post (nI n, nI c, ow, tl, hd, ga, now, lat) x := br_f h1 (br_t h2 h)
theorem er_yg_f {x : Int32} (hx : x < (-6) ∨ ¬ x ≤ 6) (h : post 1) : wpY_badGain post (nI n, nI c, ow, tl, hd, ga, now, lat) x := by
  refine br_c (fun _ => h) (fun a => ?_)
  rcases hx with b | b
  · exact absurd b a
  · exact br_f b h
theorem er_vx (h6 : n ≤ 14) (x : Int32) : (x < 0 ∨ nI n ≤ x) ∨ ∃ v, v < n ∧ x = nI v := by
  rcases pk_ix x (n := n) (by omega) with a | a | a
  · exact Or.inl (Or.inl a)
  · exact Or.inl (Or.inr a)
  · exact Or.inr a
theorem er_gain {x : Int32} (h1 : ¬ x < (-6)) (h2 : x ≤ 6) : -6 ≤ x.toInt ∧ x.toInt ≤ 6 := by
  rw [ei_lt, show ((-6 : Int32)).toInt = -6 from by decide] at h1
  rw [ei_le, show ((6 : Int32)).toInt = 6 from by decide] at h2
  omega
theorem er_deg4 (h14 : c ≤ 14) {x : Int32} (K : post (nI (eg_deg tl x c))) : ∀ m e : Nat, c < e + m → e ≤ c →
    wX_degree_4 post x (nI n) (nI c) tp sk cu tl hd ga ow ne wa qu m (nI (eg_deg tl x e)) (nI e) := by
  intro m
  induction m with
  | zero => intro e h1; exact fun _ => absurd h1 (by omega)
  | succ m ih =>
    intro e h1 h2
    by_cases z : e = c
    · rw [z]
      exact br_t (nI_le (by omega) (by omega)) K
    · have i := ih (e + 1) (by omega) (by omega)
      refine br_f (nI_ge (by omega) (by omega)) ⟨vp_in_nI (by omega) (by decide), ?_⟩
      rw [nI_clamp (show e < 2 ^ 31 by omega)]
      refine br_c (fun g => ?_) (fun g => ?_)
      · rw [eg_deg_t g] at i
        exact nm_r (nI_1 _) (nm_r (nI_1 _) i)
      · rw [eg_deg_f g] at i
        exact nm_r (Int32.add_zero _) (nm_r (nI_1 _) i)
theorem er_deg (h14 : c ≤ 14) {x : Int32} (K : post (nI (eg_deg tl x c))) : wpX_degree post (nI n, nI c, tp, sk, cu, tl, hd, ga, ow, ne, wa, qu) x :=
  ⟨c + 1, er_deg4 h14 K (c + 1) 0 (by omega) (by omega)⟩
end
section
variable {n c : Nat} {tl hd ga ow now lat : Nat → Int32} {post : Int32 → SY → Prop}
theorem er_link51 (h14 : c < 14) {x1 x2 x3 : Int32}
    (K1 : eg_deg tl x1 c < 3 → post (nI c) (nI n, nI (c + 1), ow, upd tl c x1, upd hd c x2, upd ga c x3, now, lat))
    (K2 : ¬ eg_deg tl x1 c < 3 → post (-4) (nI n, nI c, ow, tl, hd, ga, now, lat)) : ∀ m e : Nat, c < e + m → e ≤ c →
    wY_link_51 post x1 x2 x3 (nI c) (nI n) (nI c) ow tl hd ga now lat m (nI (eg_deg tl x1 e)) (nI e) := by
  intro m
  induction m with
  | zero => intro e h1; exact fun _ => absurd h1 (by omega)
  | succ m ih =>
    intro e h1 h2
    by_cases z : e = c
    · rw [z]
      have dl := eg_deg_le tl x1 c
      have vc : vp_in (nI c) 14 := vp_in_nI h14 (by decide)
      refine br_t (nI_le (by omega) (by omega)) ?_
      rw [nI_clamp (show c < 2 ^ 31 by omega)]
      by_cases y : eg_deg tl x1 c < 3
      · exact br_t (nI_lt (b := 3) y (by decide)) ⟨vc, nm_e ⟨vc, nm_e ⟨vc, nm_e (nm_r (nI_1 c) (K1 y))⟩⟩⟩
      · exact br_f (nI_nlt (b := 3) (by omega) (by omega)) (K2 y)
    · have i := ih (e + 1) (by omega) (by omega)
      refine br_f (nI_ge (by omega) (by omega)) ⟨vp_in_nI (by omega) (by decide), ?_⟩
      rw [nI_clamp (show e < 2 ^ 31 by omega)]
      refine br_c (fun g => ?_) (fun g => ?_)
      · rw [eg_deg_t g] at i
        exact nm_r (nI_1 _) (nm_r (nI_1 _) i)
      · rw [eg_deg_f g] at i
        exact nm_r (nI_1 _) i
end
def er_cutO (n c j m : Nat) (tp sk cu : Int32) (tl hd ga ow ne wa qu now lat tl' hd' ga' : Nat → Int32) : Prop :=
  eg_cutP j c tl tl' ∧ eg_cutP j c hd hd' ∧ eg_cutP j c ga ga' ∧
    (∀ post : Int32 → SX → Prop, post (nI (c - 1)) (nI n, nI (c - 1), tp, sk, 0, tl', hd', ga', ow, ne, wa, qu) → wX_cut_14 post (nI n) (nI c) tp sk cu m (nI (j + 1)) tl hd ga ow ne wa qu) ∧
    (∀ post : Int32 → SY → Prop, post (nI (c - 1)) (nI n, nI (c - 1), ow, tl', hd', ga', now, lat) → wY_cut_12 post (nI n) (nI c) m (nI j) ow tl hd ga now lat)
theorem er_cut {n c : Nat} {tp sk cu : Int32} {ow ne wa qu now lat : Nat → Int32} (h14 : c ≤ 14) (h0 : 0 < c) : ∀ (m j : Nat) (tl hd ga : Nat → Int32), c < j + 1 + m → j < c →
    ∃ tl' hd' ga', er_cutO n c j m tp sk cu tl hd ga ow ne wa qu now lat tl' hd' ga' := by
  have cm : nI c - 1 = nI (c - 1) := pk_sub (a := c) (b := 1) (by omega)
  intro m
  induction m with
  | zero => intro j tl hd ga h1 h2; exact absurd h1 (by omega)
  | succ m ih =>
    intro j tl hd ga h1 h2
    by_cases z : j + 1 = c
    · refine ⟨tl, hd, ga, eg_cut_0 (by omega), eg_cut_0 (by omega), eg_cut_0 (by omega), fun post hp => ?_, fun post hp => ?_⟩
      · exact br_t (nI_le (by omega) (by omega)) (nm_r cm hp)
      · refine br_t ?_ (nm_r cm hp)
        rw [cm]
        exact nI_le (by omega) (by omega)
    · obtain ⟨tl', hd', ga', c1, c2, c3, kX, kY⟩ := ih (j + 1) (upd tl j (tl (j + 1))) (upd hd j (hd (j + 1))) (upd ga j (ga (j + 1))) (by omega) (by omega)
      refine ⟨tl', hd', ga', eg_cut_s c1, eg_cut_s c2, eg_cut_s c3, fun post hp => ?_, fun post hp => ?_⟩
      · have v1 : vp_in (nI (j + 1)) 14 := vp_in_nI (by omega) (by decide)
        have v0 : vp_in (nI j) 14 := vp_in_nI (by omega) (by decide)
        refine br_f (nI_ge (by omega) (by omega)) ?_
        rw [nI_pred j, nI_clamp (show j < 2 ^ 31 by omega), nI_clamp (show j + 1 < 2 ^ 31 by omega)]
        exact ⟨v1, v0, nm_e ⟨v1, v0, nm_e ⟨v1, v0, nm_e (nm_r (nI_1 (j + 1)) (kX post hp))⟩⟩⟩
      · have v1 : vp_in (nI (j + 1)) 14 := vp_in_nI (by omega) (by decide)
        have v0 : vp_in (nI j) 14 := vp_in_nI (by omega) (by decide)
        refine br_f ?_ (br_f (nI_ge (b := 13) (by omega) (by decide)) ?_)
        · rw [cm]
          exact nI_ge (by omega) (by omega)
        rw [nI_1 j, nI_clamp (show j < 2 ^ 31 by omega), nI_clamp (show j + 1 < 2 ^ 31 by omega)]
        exact ⟨v1, v0, nm_e ⟨v1, v0, nm_e ⟨v1, v0, nm_e (nm_e (kY post hp))⟩⟩⟩
end
section
/-! the relation, and the methods that don't solve -/
def i_Rel (k : Nat) (u : SX) (v : SY) : Prop :=
  ∃ (n c : Nat) (cu : Int32) (tl hd ga ow ne wa qu now lat : Nat → Int32),
    u = (nI n, nI c, nI (6 * (n - 1) + 1), -1, cu, tl, hd, ga, ow, ne, wa, qu) ∧ v = (nI n, nI c, ow, tl, hd, ga, now, lat) ∧
    eg_G n c tl hd ga ∧ (∀ y, eg_deg tl y c ≤ 3) ∧ (¬ cu = 0 → eg_Sol n c tl hd ga ow (-1) ((6 * (n - 1) + 1 : Nat) : Int) (ex_F ne))
theorem ir_mk {k n c : Nat} {cu : Int32} {tl hd ga ow ne wa qu now lat : Nat → Int32} (hG : eg_G n c tl hd ga) (hD : ∀ y, eg_deg tl y c ≤ 3)
    (hS : ¬ cu = 0 → eg_Sol n c tl hd ga ow (-1) ((6 * (n - 1) + 1 : Nat) : Int) (ex_F ne)) :
    i_Rel k (nI n, nI c, nI (6 * (n - 1) + 1), -1, cu, tl, hd, ga, ow, ne, wa, qu) (nI n, nI c, ow, tl, hd, ga, now, lat) :=
  ⟨n, c, cu, tl, hd, ga, ow, ne, wa, qu, now, lat, rfl, rfl, hG, hD, hS⟩
theorem ir_mk0 {k n c : Nat} {tl hd ga ow ne wa qu now lat : Nat → Int32} (hG : eg_G n c tl hd ga) (hD : ∀ y, eg_deg tl y c ≤ 3) :
    i_Rel k (nI n, nI c, nI (6 * (n - 1) + 1), -1, 0, tl, hd, ga, ow, ne, wa, qu) (nI n, nI c, ow, tl, hd, ga, now, lat) :=
  ir_mk hG hD (fun h => absurd rfl h)
theorem ir_el {k : Nat} {P : SX → SY → Prop} (h : ∀ (n c : Nat) (cu : Int32) (tl hd ga ow ne wa qu now lat : Nat → Int32), eg_G n c tl hd ga → (∀ y, eg_deg tl y c ≤ 3) →
    (¬ cu = 0 → eg_Sol n c tl hd ga ow (-1) ((6 * (n - 1) + 1 : Nat) : Int) (ex_F ne)) →
    P (nI n, nI c, nI (6 * (n - 1) + 1), -1, cu, tl, hd, ga, ow, ne, wa, qu) (nI n, nI c, ow, tl, hd, ga, now, lat)) {u : SX} {v : SY} (I : i_Rel k u v) : P u v := by
  obtain ⟨n, c, cu, tl, hd, ga, ow, ne, wa, qu, now, lat, rfl, rfl, hG, hD, hS⟩ := I
  exact h n c cu tl hd ga ow ne wa qu now lat hG hD hS
theorem i_up {k : Nat} {u : SX} {v : SY} (h : i_Rel k u v) : i_Rel (k + 4) u v := h
theorem ir_init {n : Nat} (h2 : 2 ≤ n) (h6 : n ≤ 6) : wX_init_89 (fun u => i_Rel 1 u (nI n, 0, (fun _ => 0), (fun _ => 0), (fun _ => 0), (fun _ => 0), (fun _ => 0), (fun _ => 0)))
    (nI n) 0 0 0 0 (fun _ => 0) (fun _ => 0) (fun _ => 0) (fun _ => 0) (fun _ => 0) (fun _ => 0) (fun _ => 0) := by
  have e : 6 * (nI n - 1) + 1 = nI (6 * (n - 1) + 1) := by rw [ey_top h2, nI_1]
  refine nm_r e ?_
  refine ir_mk0 (c := 0) ⟨h2, h6, by omega, fun _ => ⟨0, by omega, rfl⟩, fun _ => ⟨0, by omega, rfl⟩, fun _ => ?_⟩ (fun y => Nat.zero_le 3)
  show -6 ≤ (0 : Int32).toInt ∧ (0 : Int32).toInt ≤ 6
  rw [ei_0]
  omega
theorem i_vc0 (k0 : Int32) : wpX_init (fun u => wpY_init (fun v => i_Rel 1 u v) k0) k0 := by
  by_cases h2 : (2 : Int32) ≤ k0
  · by_cases h6 : k0 ≤ 6
    · obtain ⟨n, hn, rfl⟩ := nI_of (x := k0) (by
        rw [ei_le, show ((2 : Int32)).toInt = 2 from by decide] at h2
        rw [ei_n0]; omega)
      have g2 : 2 ≤ n := (nI_leI (a := 2) (by omega) hn).mp h2
      have g6 : n ≤ 6 := (nI_leI (b := 6) hn (by omega)).mp h6
      exact br_t h2 (br_t h6 (nm_e (br_t h2 (br_t h6 (ir_init g2 g6 _ rfl)))))
    · exact br_t h2 (br_f h6 (nm_e (br_t h2 (br_f h6 (ir_init (n := 6) (by omega) (by omega) _ rfl)))))
  · exact br_f h2 (br_t (by decide) (nm_e (br_f h2 (ir_init (n := 2) (by omega) (by omega) _ rfl))))
theorem i_vc_vertices {k : Nat} {u : SX} {v : SY} (I : i_Rel k u v) (hk : k + 4 ≤ 2049) : wpX_vertices (fun r => wpY_vertices (fun r' => r' = r ∧ i_Rel (k + 4) u v) v) u := by
  have I' := i_up I
  revert I'
  refine ir_el (P := fun u v => i_Rel (k + 4) u v → wpX_vertices (fun r => wpY_vertices (fun r' => r' = r ∧ i_Rel (k + 4) u v) v) u) ?_ I
  intro n c cu tl hd ga ow ne wa qu now lat hG hD hS I'
  exact ⟨rfl, I'⟩
theorem i_vc_edges {k : Nat} {u : SX} {v : SY} (I : i_Rel k u v) (hk : k + 4 ≤ 2049) : wpX_edges (fun r => wpY_edges (fun r' => r' = r ∧ i_Rel (k + 4) u v) v) u := by
  have I' := i_up I
  revert I'
  refine ir_el (P := fun u v => i_Rel (k + 4) u v → wpX_edges (fun r => wpY_edges (fun r' => r' = r ∧ i_Rel (k + 4) u v) v) u) ?_ I
  intro n c cu tl hd ga ow ne wa qu now lat hG hD hS I'
  exact ⟨rfl, I'⟩
theorem ir_01 {x : Int32} (h0 : ¬ x = 0) (h1 : ¬ x = 1) : x < 0 ∨ ¬ x ≤ 1 := by
  rw [ei_eq, ei_0] at h0
  rw [ei_eq, show ((1 : Int32)).toInt = 1 from by decide] at h1
  rw [ei_n0, ei_le, show ((1 : Int32)).toInt = 1 from by decide]
  omega
theorem ir_01t {x : Int32} (h : x = 0 ∨ x = 1) : ¬ x < 0 ∧ x ≤ 1 := by
  rcases h with rfl | rfl <;> exact ⟨by decide, by decide⟩
theorem i_vc_give {k : Nat} {u : SX} {v : SY} (I : i_Rel k u v) (hk : k + 4 ≤ 2049) (v1 : Int32) (v2 : Int32) : wpX_give (fun r u' => wpY_give (fun r' v' => r' = r ∧ i_Rel (k + 4) u' v') v v1 v2) u v1 v2 := by
  refine ir_el (P := fun u v => wpX_give (fun r u' => wpY_give (fun r' v' => r' = r ∧ i_Rel (k + 4) u' v') v v1 v2) u v1 v2) ?_ I
  intro n c cu tl hd ga ow ne wa qu now lat hG hD hS
  have h6 : n ≤ 6 := hG.2.1
  unfold wpX_give wpY_give
  dsimp only
  rcases er_vx (n := n) (by omega) v1 with hx | ⟨v, hv, rfl⟩
  · exact er_xv_f hx (br_t rfl (er_yv_f hx (br_f (by decide) ⟨rfl, ir_mk hG hD hS⟩)))
  · have v6 : vp_in (nI v) 6 := vp_in_nI (by omega) (by decide)
    have v8 : vp_in (nI v) 8 := vp_in_nI (by omega) (by decide)
    refine er_xv_t h6 hv (br_f (by decide) ?_)
    by_cases hp : v2 = 0 ∨ v2 = 1
    · have q := ir_01t hp
      refine br_c (fun h0 => ?_) (fun h0 => br_c (fun h1 => ?_) (fun h1 => absurd hp (fun w => w.elim h0 h1)))
      · exact ⟨v6, nm_e ⟨v6, nm_e (er_yv_t h6 hv (br_t rfl (br_f q.1 (br_t q.2 ⟨v8, nm_e ⟨v8, nm_e ⟨rfl, ir_mk0 hG hD⟩⟩⟩))))⟩⟩
      · exact ⟨v6, nm_e ⟨v6, nm_e (er_yv_t h6 hv (br_t rfl (br_f q.1 (br_t q.2 ⟨v8, nm_e ⟨v8, nm_e ⟨rfl, ir_mk0 hG hD⟩⟩⟩))))⟩⟩
    · refine br_f (fun w => hp (Or.inl w)) (br_f (fun w => hp (Or.inr w)) (er_yv_t h6 hv (br_t rfl ?_)))
      refine br_c (fun _ => ⟨rfl, ir_mk hG hD hS⟩) (fun a => ?_)
      rcases ir_01 (fun w => hp (Or.inl w)) (fun w => hp (Or.inr w)) with b | b
      · exact absurd b a
      · exact br_f b ⟨rfl, ir_mk hG hD hS⟩
theorem eg_G_link {n c : Nat} {tl hd ga : Nat → Int32} (h : eg_G n c tl hd ga) {a b : Nat} {x : Int32} (ha : a < n) (hb : b < n) (hx : -6 ≤ x.toInt ∧ x.toInt ≤ 6) (hc : c < 14) :
    eg_G n (c + 1) (upd tl c (nI a)) (upd hd c (nI b)) (upd ga c x) := by
  obtain ⟨h2, h6, h14, h4, h5, h7⟩ := h
  refine ⟨h2, h6, by omega, fun e => ?_, fun e => ?_, fun e => ?_⟩
  · by_cases z : e = c
    · rw [z, pk_us]; exact ⟨a, ha, rfl⟩
    · rw [pk_un z]; exact h4 e
  · by_cases z : e = c
    · rw [z, pk_us]; exact ⟨b, hb, rfl⟩
    · rw [pk_un z]; exact h5 e
  · by_cases z : e = c
    · rw [z, pk_us]; exact hx
    · rw [pk_un z]; exact h7 e
theorem i_vc_link {k : Nat} {u : SX} {v : SY} (I : i_Rel k u v) (hk : k + 4 ≤ 2049) (v1 : Int32) (v2 : Int32) (v3 : Int32) : wpX_link (fun r u' => wpY_link (fun r' v' => r' = r ∧ i_Rel (k + 4) u' v') v v1 v2 v3) u v1 v2 v3 := by
  refine ir_el (P := fun u v => wpX_link (fun r u' => wpY_link (fun r' v' => r' = r ∧ i_Rel (k + 4) u' v') v v1 v2 v3) u v1 v2 v3) ?_ I
  intro n c cu tl hd ga ow ne wa qu now lat hG hD hS
  have h6 : n ≤ 6 := hG.2.1
  have h14 : c ≤ 14 := hG.2.2.1
  unfold wpX_link wpY_link
  dsimp only
  rcases er_vx (n := n) (by omega) v1 with hx | ⟨a, ha, rfl⟩
  · exact er_xv_f hx (br_t rfl (er_yv_f hx (br_f (by decide) ⟨rfl, ir_mk hG hD hS⟩)))
  refine er_xv_t h6 ha (br_f (by decide) ?_)
  rcases er_vx (n := n) (by omega) v2 with hx | ⟨b, hb, rfl⟩
  · exact er_xv_f hx (br_t rfl (er_yv_t h6 ha (br_t rfl (er_yv_f hx (br_f (by decide) ⟨rfl, ir_mk hG hD hS⟩)))))
  refine er_xv_t h6 hb (br_f (by decide) ?_)
  by_cases g1 : v3 < (-6)
  · exact br_t g1 (er_yv_t h6 ha (br_t rfl (er_yv_t h6 hb (br_t rfl (er_yg_f (Or.inl g1) (br_f (by decide) ⟨rfl, ir_mk hG hD hS⟩))))))
  refine br_f g1 ?_
  by_cases g2 : v3 ≤ 6
  · refine br_t g2 ?_
    by_cases hc : c = 14
    · refine br_t (congrArg nI hc) (er_yv_t h6 ha (br_t rfl (er_yv_t h6 hb (br_t rfl (er_yg_t g1 g2 (br_t rfl (br_f (nI_nlt (b := 14) (by omega) (by omega)) ⟨rfl, ir_mk hG hD hS⟩)))))))
    · refine br_f (fun w => hc ((nI_eq (b := 14) (by omega) (by omega)).mp w)) ?_
      have hc' : c < 14 := by omega
      have dl := hD (nI a)
      have vc : vp_in (nI c) 14 := vp_in_nI hc' (by decide)
      refine er_deg h14 ?_
      by_cases d3 : eg_deg tl (nI a) c = 3
      · exact br_t (congrArg nI d3) (er_yv_t h6 ha (br_t rfl (er_yv_t h6 hb (br_t rfl (er_yg_t g1 g2 (br_t rfl (br_t (nI_lt (b := 14) hc' (by decide))
          ⟨c + 1, er_link51 hc' (fun w => absurd w (by omega)) (fun _ => ⟨rfl, ir_mk hG hD hS⟩) (c + 1) 0 (by omega) (by omega)⟩)))))))
      · refine br_f (fun w => d3 ((nI_eq (b := 3) (by omega) (by omega)).mp w)) ?_
        rw [nI_clamp (show c < 2 ^ 31 by omega)]
        refine ⟨vc, nm_e ⟨vc, nm_e ⟨vc, nm_e (nm_r (nI_1 c) ?_)⟩⟩⟩
        rw [nI_pred c]
        exact er_yv_t h6 ha (br_t rfl (er_yv_t h6 hb (br_t rfl (er_yg_t g1 g2 (br_t rfl (br_t (nI_lt (b := 14) hc' (by decide))
          ⟨c + 1, er_link51 hc' (fun _ => ⟨rfl, ir_mk0 (eg_G_link hG ha hb (er_gain g1 g2) hc') (eg_deg_link hD d3)⟩) (fun w => absurd w (by omega)) (c + 1) 0 (by omega) (by omega)⟩))))))
  · exact br_f g2 (er_yv_t h6 ha (br_t rfl (er_yv_t h6 hb (br_t rfl (er_yg_f (Or.inr g2) (br_f (by decide) ⟨rfl, ir_mk hG hD hS⟩))))))
theorem eg_G_cut {n c j : Nat} {tl hd ga tl' hd' ga' : Nat → Int32} (h : eg_G n c tl hd ga) (c1 : eg_cutP j c tl tl') (c2 : eg_cutP j c hd hd') (c3 : eg_cutP j c ga ga') : eg_G n (c - 1) tl' hd' ga' := by
  obtain ⟨h2, h6, h14, h4, h5, h7⟩ := h
  refine ⟨h2, h6, by omega, fun e => ?_, fun e => ?_, fun e => ?_⟩
  · obtain ⟨q, hq⟩ := c1.2.2 e
    rw [hq]; exact h4 q
  · obtain ⟨q, hq⟩ := c2.2.2 e
    rw [hq]; exact h5 q
  · obtain ⟨q, hq⟩ := c3.2.2 e
    rw [hq]; exact h7 q
theorem i_vc_cut {k : Nat} {u : SX} {v : SY} (I : i_Rel k u v) (hk : k + 4 ≤ 2049) (v1 : Int32) : wpX_cut (fun r u' => wpY_cut (fun r' v' => r' = r ∧ i_Rel (k + 4) u' v') v v1) u v1 := by
  refine ir_el (P := fun u v => wpX_cut (fun r u' => wpY_cut (fun r' v' => r' = r ∧ i_Rel (k + 4) u' v') v v1) u v1) ?_ I
  intro n c cu tl hd ga ow ne wa qu now lat hG hD hS
  have h14 : c ≤ 14 := hG.2.2.1
  unfold wpX_cut wpY_cut
  dsimp only
  rcases er_vx h14 v1 with hx | ⟨j, hj, rfl⟩
  · exact er_xe_f hx (br_t rfl (er_ye_f hx (br_f (by decide) ⟨rfl, ir_mk hG hD hS⟩)))
  · obtain ⟨tl', hd', ga', c1, c2, c3, kX, kY⟩ := er_cut (n := n) (c := c) (tp := nI (6 * (n - 1) + 1)) (sk := -1) (cu := cu) (ow := ow) (ne := ne) (wa := wa) (qu := qu) (now := now) (lat := lat) h14 (by omega) (c + 1) j tl hd ga (by omega) hj
    refine er_xe_t h14 hj (br_f (by decide) (nm_r (nI_1 j) ⟨c + 1, kX _ ?_⟩))
    exact er_ye_t h14 hj (br_t rfl ⟨c + 1, kY _ ⟨rfl, ir_mk0 (eg_G_cut hG c1 c2 c3) (eg_deg_cut3 c1 hj hD)⟩⟩)
theorem i_vc_set {k : Nat} {u : SX} {v : SY} (I : i_Rel k u v) (hk : k + 4 ≤ 2049) (v1 : Int32) (v2 : Int32) : wpX_set (fun r u' => wpY_set (fun r' v' => r' = r ∧ i_Rel (k + 4) u' v') v v1 v2) u v1 v2 := by
  refine ir_el (P := fun u v => wpX_set (fun r u' => wpY_set (fun r' v' => r' = r ∧ i_Rel (k + 4) u' v') v v1 v2) u v1 v2) ?_ I
  intro n c cu tl hd ga ow ne wa qu now lat hG hD hS
  have h14 : c ≤ 14 := hG.2.2.1
  unfold wpX_set wpY_set
  dsimp only
  rcases er_vx h14 v1 with hx | ⟨j, hj, rfl⟩
  · exact er_xe_f hx (br_t rfl (er_ye_f hx (br_f (by decide) ⟨rfl, ir_mk hG hD hS⟩)))
  refine er_xe_t h14 hj (br_f (by decide) ?_)
  have vj : vp_in (nI j) 14 := vp_in_nI (by omega) (by decide)
  by_cases g1 : v2 < (-6)
  · exact br_t g1 (er_ye_t h14 hj (br_t rfl (er_yg_f (Or.inl g1) (br_f (by decide) ⟨rfl, ir_mk hG hD hS⟩))))
  refine br_f g1 ?_
  by_cases g2 : v2 ≤ 6
  · refine br_t g2 ⟨vj, nm_e ⟨vj, nm_e (er_ye_t h14 hj (br_t rfl (er_yg_t g1 g2 (br_t rfl ⟨vj, nm_e ⟨vj, nm_e ⟨rfl, ir_mk0 ?_ hD⟩⟩⟩))))⟩⟩
    obtain ⟨h2, h6, _, h4, h5, h7⟩ := hG
    refine ⟨h2, h6, h14, h4, h5, fun e => ?_⟩
    by_cases z : e = (nI j).toNatClampNeg
    · rw [z, pk_us]; exact er_gain g1 g2
    · rw [pk_un z]; exact h7 e
  · exact br_f g2 (er_ye_t h14 hj (br_t rfl (er_yg_f (Or.inr g2) (br_f (by decide) ⟨rfl, ir_mk hG hD hS⟩))))
end
section
/-! the questions' loops, both sides to one answer -/
def er_sh (t : Nat) (ne : Nat → Int32) (v : Nat) : Int32 := if ne v = nI t then -2 else ne v
def er_gv (t : Nat) (own na nb : Int32) (g : Int) : Int32 :=
  if na = nI t then (if own = 1 then (if nb = nI t then 1 else 0) else 0) else (if nb = nI t then 0 else if eg_ask t nb.toInt g = na.toInt then 1 else 0)
def er_ge (t : Nat) (tl hd ga ow ne : Nat → Int32) (e : Nat) : Int32 :=
  er_gv t (ow (tl e).toNatClampNeg) (ne (tl e).toNatClampNeg) (ne (hd e).toNatClampNeg) (ga e).toInt
section
variable {n c t : Nat} {sk cu : Int32} {tl hd ga ow ne wa qu : Nat → Int32}
theorem er_99 {now : Nat → Int32} (ht : t ≤ 31) (hN : eg_In n t (ex_F ne)) (R : ey_N n t (ex_F ne) now) {v : Nat} (hv : v < n) : now v = 99 ↔ ne v = nI t := by
  have a : (ne v).toInt ≤ t := (hN v hv).2
  have b : (now v).toInt = eg_en t (ne v).toInt := R v hv
  rw [ei_eq, ei_99, b, eg_en_99 a (by omega), ei_eq, nI_toInt (show t < 2 ^ 31 by omega)]
theorem er_eq {now : Nat → Int32} (ht : t ≤ 31) (hN : eg_In n t (ex_F ne)) (R : ey_N n t (ex_F ne) now) {v : Nat} (hv : v < n) (h : ¬ ne v = nI t) : now v = ne v := by
  have a : (ne v).toInt ≤ t := (hN v hv).2
  have b : (now v).toInt = eg_en t (ne v).toInt := R v hv
  rw [ei_eq, nI_toInt (show t < 2 ^ 31 by omega)] at h
  rw [ei_eq, b]
  exact eg_en_lt (by omega)
theorem er_tle (ht : t ≤ 31) (hN : eg_In n t (ex_F ne)) {v : Nat} (hv : v < n) : nI t ≤ ne v ↔ ne v = nI t := by
  have a : (ne v).toInt ≤ t := (hN v hv).2
  rw [ei_le, ei_eq, nI_toInt (show t < 2 ^ 31 by omega)]
  omega
theorem er_shX (h6 : n ≤ 6) {v : Nat} (hv : v < n) {post : Int32 → Prop} (h : post (er_sh t ne v)) : wpX_shown post (nI n, nI c, nI t, sk, cu, tl, hd, ga, ow, ne, wa, qu) (nI v) := by
  have v6 : vp_in (nI v) 6 := vp_in_nI (by omega) (by decide)
  unfold er_sh at h
  unfold wpX_shown
  dsimp only
  rw [nI_clamp (show v < 2 ^ 31 by omega)]
  refine ⟨v6, br_c (fun g => ?_) (fun g => ⟨v6, ?_⟩)⟩
  · rw [if_pos g] at h; exact h
  · rw [if_neg g] at h; exact h
theorem er_shY {now lat : Nat → Int32} (h6 : n ≤ 6) (ht : t ≤ 31) (hN : eg_In n t (ex_F ne)) (R : ey_N n t (ex_F ne) now) {v : Nat} (hv : v < n) {post : Int32 → Prop} (h : post (er_sh t ne v)) :
    wpY_told post (nI n, nI c, ow, tl, hd, ga, now, lat) (nI v) := by
  have v8 : vp_in (nI v) 8 := vp_in_nI (by omega) (by decide)
  unfold er_sh at h
  unfold wpY_told
  dsimp only
  rw [nI_clamp (show v < 2 ^ 31 by omega)]
  refine ⟨v8, br_c (fun g => ?_) (fun g => ⟨v8, ?_⟩)⟩
  · rw [if_pos ((er_99 ht hN R hv).mp g)] at h; exact h
  · have g' : ¬ ne v = nI t := fun w => g ((er_99 ht hN R hv).mpr w)
    rw [if_neg g'] at h
    rw [er_eq ht hN R hv g']
    exact h
theorem er_goodX (hG : eg_G n c tl hd ga) (ht : t ≤ 31) (hN : eg_In n t (ex_F ne)) {e : Nat} (he : e < 14) {post : Int32 → Prop} (h : post (er_ge t tl hd ga ow ne e)) :
    wpX_isGood post (nI n, nI c, nI t, sk, cu, tl, hd, ga, ow, ne, wa, qu) (nI e) := by
  have h6 : n ≤ 6 := hG.2.1
  obtain ⟨a, ha, ea⟩ := hG.2.2.2.1 e
  obtain ⟨b, hb, eb⟩ := hG.2.2.2.2.1 e
  have ve : vp_in (nI e) 14 := vp_in_nI he (by decide)
  have va : vp_in (nI a) 6 := vp_in_nI (by omega) (by decide)
  have vb : vp_in (nI b) 6 := vp_in_nI (by omega) (by decide)
  have ac : (nI a).toNatClampNeg = a := nI_clamp (by omega)
  have bc : (nI b).toNatClampNeg = b := nI_clamp (by omega)
  unfold er_ge er_gv at h
  rw [ea, eb, ac, bc] at h
  unfold wpX_isGood
  dsimp only
  rw [nI_clamp (show e < 2 ^ 31 by omega), ea, eb]
  refine ⟨ve, nm_e ⟨ve, nm_e ⟨va, ?_⟩⟩⟩
  rw [ac, bc]
  refine br_c (fun A => ⟨va, br_c (fun O => ⟨vb, br_c (fun B => ?_) (fun B => ?_)⟩) (fun O => ?_)⟩) (fun A => ex_asked hG ht he hN (fun r hr => ⟨va, br_c (fun q => ⟨vb, br_c (fun B => ?_) (fun B => ?_)⟩) (fun q => ?_)⟩))
  · rw [if_pos A, if_pos O, if_pos B] at h; exact h
  · rw [if_pos A, if_pos O, if_neg B] at h; exact h
  · rw [if_pos A, if_neg O] at h; exact h
  · rw [er_tle ht hN hb] at B
    rw [if_neg A, if_pos B] at h; exact h
  · rw [er_tle ht hN hb] at B
    rw [eb, bc] at hr
    have hr' : r.toInt = eg_ask t (ne b).toInt (ga e).toInt := hr
    rw [if_neg A, if_neg B, if_pos (by rw [← hr', q])] at h; exact h
  · rw [eb, bc] at hr
    have hr' : r.toInt = eg_ask t (ne b).toInt (ga e).toInt := hr
    rw [if_neg A] at h
    by_cases B : ne b = nI t
    · rw [if_pos B] at h; exact h
    · rw [if_neg B, if_neg (by rw [← hr']; exact fun w => q (ei_eq.mpr w))] at h; exact h
theorem er_goodY {now lat : Nat → Int32} (hG : eg_G n c tl hd ga) (ht : t ≤ 31) (hN : eg_In n t (ex_F ne)) (R : ey_N n t (ex_F ne) now) {e : Nat} (he : e < 14) {post : Int32 → Prop} (h : post (er_ge t tl hd ga ow ne e)) :
    wpY_good post (nI n, nI c, ow, tl, hd, ga, now, lat) (nI e) := by
  have h6 : n ≤ 6 := hG.2.1
  have hg := hG.2.2.2.2.2 e
  obtain ⟨a, ha, ea⟩ := hG.2.2.2.1 e
  obtain ⟨b, hb, eb⟩ := hG.2.2.2.2.1 e
  have ve : vp_in (nI e) 14 := vp_in_nI he (by decide)
  have va : vp_in (nI a) 8 := vp_in_nI (by omega) (by decide)
  have vb : vp_in (nI b) 8 := vp_in_nI (by omega) (by decide)
  have ac : (nI a).toNatClampNeg = a := nI_clamp (by omega)
  have bc : (nI b).toNatClampNeg = b := nI_clamp (by omega)
  have na := hN a ha
  have nb := hN b hb
  have A9 := er_99 ht hN R ha
  have B9 := er_99 ht hN R hb
  have Aq := er_eq ht hN R ha
  have Bq := er_eq ht hN R hb
  have T1 : (nI t).toInt = (t : Int) := nI_toInt (by omega)
  unfold er_ge er_gv at h
  rw [ea, eb, ac, bc] at h
  unfold wpY_good
  dsimp only
  rw [nI_clamp (show e < 2 ^ 31 by omega), ea, eb]
  refine ⟨ve, nm_e ⟨va, ?_⟩⟩
  rw [ac, bc]
  refine br_c (fun A => ⟨va, br_c (fun O => ⟨ve, vb, br_c (fun B => ?_) (fun B => ?_)⟩) (fun O => ?_)⟩) (fun A => ⟨ve, vb, ve, fun y ey => ⟨ve, vb, br_c (fun B => ?_) (fun B => ?_)⟩⟩)
  · rw [if_pos (A9.mp A), if_pos O, if_pos (B9.mp B)] at h; exact h
  · rw [if_pos (A9.mp A), if_pos O, if_neg (fun w => B (B9.mpr w))] at h; exact h
  · rw [if_pos (A9.mp A), if_neg O] at h; exact h
  · rw [if_neg (fun w => A (A9.mpr w)), if_pos (B9.mp B)] at h; exact h
  · have A' : ¬ ne a = nI t := fun w => A (A9.mpr w)
    have B' : ¬ ne b = nI t := fun w => B (B9.mpr w)
    rw [if_neg A', if_neg B'] at h
    rw [Bq B'] at ey
    have na' : 0 ≤ (ne a).toInt ∧ (ne a).toInt ≤ t := na
    have nb' : 0 ≤ (ne b).toInt ∧ (ne b).toInt ≤ t := nb
    have sy : y.toInt = (ne b).toInt - (ga e).toInt := by rw [ey]; exact Jvm.Kit.i32_sub (by omega) (by omega)
    have A2 : ¬ (ne a).toInt = t := fun w => A' (ei_eq.mpr (w.trans T1.symm))
    have B2 : ¬ (ne b).toInt = t := fun w => B' (ei_eq.mpr (w.trans T1.symm))
    have fin : ∀ z : Int32, (z = ne a ↔ eg_ask t (ne b).toInt (ga e).toInt = (ne a).toInt) → wY_good_94 post (nI a) z (nI n) (nI c) ow tl hd ga now lat := by
      intro z hz
      refine ⟨va, ?_⟩
      rw [ac, Aq A']
      refine br_c (fun q => ?_) (fun q => ?_)
      · rw [if_pos (hz.mp q)] at h; exact h
      · rw [if_neg (fun w => q (hz.mpr w))] at h; exact h
    refine br_c (fun q => fin y ?_) (fun q => fin 0 ?_)
    · rw [ei_p0, sy] at q
      rw [ei_eq, sy]
      unfold eg_ask
      rw [if_neg B2, if_neg (by omega)]
      split <;> omega
    · rw [ei_p0, sy] at q
      rw [ei_eq, ei_0]
      unfold eg_ask
      rw [if_neg B2, if_pos (by omega)]
def er_chO (n c t : Nat) (sk cu : Int32) (tl hd ga ow ne wa qu : Nat → Int32) (x : Int32) (m j : Nat) (r : Int32) : Prop :=
  (r = -2 ∨ ∃ e, e < c ∧ r = nI e) ∧ (∀ post : Int32 → SX → Prop, post r (nI n, nI c, nI t, sk, cu, tl, hd, ga, ow, ne, wa, qu) → wX_choice_16 post x (nI n) (nI c) (nI t) sk cu tl hd ga ow ne wa qu m (nI j)) ∧
    (∀ now lat : Nat → Int32, ey_N n t (ex_F ne) now → ∀ post : Int32 → Prop, post r → wY_chosen_2 post x (nI n) (nI c) ow tl hd ga now lat m (nI j))
theorem er_choice (hG : eg_G n c tl hd ga) (ht : t ≤ 31) (hN : eg_In n t (ex_F ne)) (x : Int32) : ∀ d j : Nat, j + d = c → ∃ r, er_chO n c t sk cu tl hd ga ow ne wa qu x (d + 1) j r := by
  have h14 : c ≤ 14 := hG.2.2.1
  intro d
  induction d with
  | zero =>
    intro j hj
    have z : nI c ≤ nI j := nI_le (by omega) (by omega)
    exact ⟨-2, Or.inl rfl, fun post hp => br_t z hp, fun now lat R post hp => br_t z hp⟩
  | succ d ih =>
    intro j hj
    have z : ¬ nI c ≤ nI j := nI_ge (by omega) (by omega)
    have z14 : ¬ 14 ≤ nI j := nI_ge (b := 14) (by omega) (by decide)
    have vj : vp_in (nI j) 14 := vp_in_nI (by omega) (by decide)
    have jc : (nI j).toNatClampNeg = j := nI_clamp (by omega)
    have j14 : j < 14 := by omega
    obtain ⟨r, r1, r2, r3⟩ := ih (j + 1) (by omega)
    by_cases g : tl j = x
    · by_cases q : er_ge t tl hd ga ow ne j = 0
      · refine ⟨r, r1, fun post hp => br_f z ⟨vj, ?_⟩, fun now lat R post hp => br_f z (br_f z14 ⟨vj, ?_⟩)⟩
        · rw [jc]; exact br_t g (er_goodX hG ht hN j14 (br_t q (nm_r (nI_1 j) (r2 post hp))))
        · rw [jc]; exact br_t g (er_goodY hG ht hN R j14 (br_t q (nm_r (nI_1 j) (r3 now lat R post hp))))
      · refine ⟨nI j, Or.inr ⟨j, by omega, rfl⟩, fun post hp => br_f z ⟨vj, ?_⟩, fun now lat R post hp => br_f z (br_f z14 ⟨vj, ?_⟩)⟩
        · rw [jc]; exact br_t g (er_goodX hG ht hN j14 (br_f q hp))
        · rw [jc]; exact br_t g (er_goodY hG ht hN R j14 (br_f q hp))
    · refine ⟨r, r1, fun post hp => br_f z ⟨vj, ?_⟩, fun now lat R post hp => br_f z (br_f z14 ⟨vj, ?_⟩)⟩
      · rw [jc]; exact br_f g (nm_r (nI_1 j) (r2 post hp))
      · rw [jc]; exact br_f g (nm_r (nI_1 j) (r3 now lat R post hp))
def er_csO (n c t : Nat) (sk cu : Int32) (tl hd ga ow ne wa qu : Nat → Int32) (x : Int32) (m j : Nat) (s r : Int32) : Prop :=
  (∀ post : Int32 → SX → Prop, post r (nI n, nI c, nI t, sk, cu, tl, hd, ga, ow, ne, wa, qu) → wX_choices_18 post x (nI n) (nI c) (nI t) sk cu tl hd ga ow ne wa qu m s (nI j)) ∧
    (∀ now lat : Nat → Int32, ey_N n t (ex_F ne) now → ∀ post : Int32 → SY → Prop, post r (nI n, nI c, ow, tl, hd, ga, now, lat) → wY_choices_21 post x (nI n) (nI c) ow tl hd ga now lat m s (nI j))
theorem er_choices (hG : eg_G n c tl hd ga) (ht : t ≤ 31) (hN : eg_In n t (ex_F ne)) (x : Int32) : ∀ (d j : Nat) (s : Int32), j + d = c → ∃ r, er_csO n c t sk cu tl hd ga ow ne wa qu x (d + 1) j s r := by
  have h14 : c ≤ 14 := hG.2.2.1
  intro d
  induction d with
  | zero =>
    intro j s hj
    have z : nI c ≤ nI j := nI_le (by omega) (by omega)
    exact ⟨s, fun post hp => br_t z hp, fun now lat R post hp => br_t z hp⟩
  | succ d ih =>
    intro j s hj
    have z : ¬ nI c ≤ nI j := nI_ge (by omega) (by omega)
    have z14 : ¬ 14 ≤ nI j := nI_ge (b := 14) (by omega) (by decide)
    have vj : vp_in (nI j) 14 := vp_in_nI (by omega) (by decide)
    have jc : (nI j).toNatClampNeg = j := nI_clamp (by omega)
    have j14 : j < 14 := by omega
    by_cases g : tl j = x
    · by_cases q : er_ge t tl hd ga ow ne j = 0
      · obtain ⟨r, r2, r3⟩ := ih (j + 1) s (by omega)
        refine ⟨r, fun post hp => br_f z ⟨vj, ?_⟩, fun now lat R post hp => br_f z (br_f z14 ⟨vj, ?_⟩)⟩
        · rw [jc]; exact br_t g (er_goodX hG ht hN j14 (br_t q (nm_r (Int32.add_zero s) (nm_r (nI_1 j) (r2 post hp)))))
        · rw [jc]; exact br_t g (er_goodY hG ht hN R j14 (br_t q (nm_r (nI_1 j) (r3 now lat R post hp))))
      · obtain ⟨r, r2, r3⟩ := ih (j + 1) (s + 1) (by omega)
        refine ⟨r, fun post hp => br_f z ⟨vj, ?_⟩, fun now lat R post hp => br_f z (br_f z14 ⟨vj, ?_⟩)⟩
        · rw [jc]; exact br_t g (er_goodX hG ht hN j14 (br_f q (nm_e (nm_r (nI_1 j) (r2 post hp)))))
        · rw [jc]; exact br_t g (er_goodY hG ht hN R j14 (br_f q (nm_e (nm_r (nI_1 j) (r3 now lat R post hp)))))
    · obtain ⟨r, r2, r3⟩ := ih (j + 1) s (by omega)
      refine ⟨r, fun post hp => br_f z ⟨vj, ?_⟩, fun now lat R post hp => br_f z (br_f z14 ⟨vj, ?_⟩)⟩
      · rw [jc]; exact br_f g (nm_r (Int32.add_zero s) (nm_r (nI_1 j) (r2 post hp)))
      · rw [jc]; exact br_f g (nm_r (nI_1 j) (r3 now lat R post hp))
def er_saO (n c t : Nat) (sk cu : Int32) (tl hd ga ow ne wa qu : Nat → Int32) (x : Int32) (m j : Nat) (s r : Int32) : Prop :=
  (∀ post : Int32 → SX → Prop, post r (nI n, nI c, nI t, sk, cu, tl, hd, ga, ow, ne, wa, qu) → wX_safe_8 post x (nI n) (nI c) (nI t) sk cu tl hd ga ow ne wa qu m s (nI j)) ∧
    (∀ now lat : Nat → Int32, ey_N n t (ex_F ne) now → ∀ post : Int32 → SY → Prop, post r (nI n, nI c, ow, tl, hd, ga, now, lat) → wY_safe_11 post x (nI n) (nI c) ow tl hd ga now lat m s (nI j))
theorem er_safe (h6 : n ≤ 6) (ht : t ≤ 31) (hN : eg_In n t (ex_F ne)) (x : Int32) : ∀ (d j : Nat) (s : Int32), j + d = n → ∃ r, er_saO n c t sk cu tl hd ga ow ne wa qu x (d + 1) j s r := by
  intro d
  induction d with
  | zero =>
    intro j s hj
    have z : nI n ≤ nI j := nI_le (by omega) (by omega)
    exact ⟨s, fun post hp => br_t z hp, fun now lat R post hp => br_t z hp⟩
  | succ d ih =>
    intro j s hj
    have z : ¬ nI n ≤ nI j := nI_ge (by omega) (by omega)
    have v6 : vp_in (nI j) 6 := vp_in_nI (by omega) (by decide)
    have v8 : vp_in (nI j) 8 := vp_in_nI (by omega) (by decide)
    have jc : (nI j).toNatClampNeg = j := nI_clamp (by omega)
    have jn : j < n := by omega
    by_cases g : ne j = nI t
    · obtain ⟨r, r2, r3⟩ := ih (j + 1) s (by omega)
      refine ⟨r, fun post hp => br_f z ⟨v6, ?_⟩, fun now lat R post hp => br_f z ⟨v8, ?_⟩⟩
      · rw [jc]; exact br_t ((er_tle ht hN jn).mpr g) (nm_r (nI_1 j) (r2 post hp))
      · rw [jc]; exact br_t ((er_99 ht hN R jn).mpr g) (nm_r (nI_1 j) (r3 now lat R post hp))
    · by_cases q : x < ne j
      · obtain ⟨r, r2, r3⟩ := ih (j + 1) s (by omega)
        refine ⟨r, fun post hp => br_f z ⟨v6, ?_⟩, fun now lat R post hp => br_f z ⟨v8, ?_⟩⟩
        · rw [jc]; exact br_f (fun w => g ((er_tle ht hN jn).mp w)) ⟨v6, br_t q (nm_r (nI_1 j) (r2 post hp))⟩
        · rw [jc, er_eq ht hN R jn g]; exact br_f (fun w => g ((er_99 ht hN R jn).mp ((er_eq ht hN R jn g).trans w))) ⟨v8, br_t q (nm_r (nI_1 j) (r3 now lat R post hp))⟩
      · obtain ⟨r, r2, r3⟩ := ih (j + 1) (s ||| ((1 : Int32) <<< (nI j &&& 31))) (by omega)
        refine ⟨r, fun post hp => br_f z ⟨v6, ?_⟩, fun now lat R post hp => br_f z ⟨v8, ?_⟩⟩
        · rw [jc]; exact br_f (fun w => g ((er_tle ht hN jn).mp w)) ⟨v6, br_f q (nm_e (nm_r (nI_1 j) (r2 post hp)))⟩
        · rw [jc, er_eq ht hN R jn g]; exact br_f (fun w => g ((er_99 ht hN R jn).mp ((er_eq ht hN R jn g).trans w))) ⟨v8, br_f q (nm_e (nm_r (nI_1 j) (r3 now lat R post hp)))⟩
def er_hoO (n c t : Nat) (sk cu : Int32) (tl hd ga ow ne wa qu : Nat → Int32) (m j : Nat) (s r : Int32) : Prop :=
  (∀ post : Int32 → SX → Prop, post r (nI n, nI c, nI t, sk, cu, tl, hd, ga, ow, ne, wa, qu) → wX_hopeless_8 post (nI n) (nI c) (nI t) sk cu tl hd ga ow ne wa qu m s (nI j)) ∧
    (∀ now lat : Nat → Int32, ey_N n t (ex_F ne) now → ∀ post : Int32 → SY → Prop, post r (nI n, nI c, ow, tl, hd, ga, now, lat) → wY_hopeless_11 post (nI n) (nI c) ow tl hd ga now lat m s (nI j))
theorem er_hopeless (h6 : n ≤ 6) (ht : t ≤ 31) (hN : eg_In n t (ex_F ne)) : ∀ (d j : Nat) (s : Int32), j + d = n → ∃ r, er_hoO n c t sk cu tl hd ga ow ne wa qu (d + 1) j s r := by
  intro d
  induction d with
  | zero =>
    intro j s hj
    have z : nI n ≤ nI j := nI_le (by omega) (by omega)
    exact ⟨s, fun post hp => br_t z hp, fun now lat R post hp => br_t z hp⟩
  | succ d ih =>
    intro j s hj
    have z : ¬ nI n ≤ nI j := nI_ge (by omega) (by omega)
    have v6 : vp_in (nI j) 6 := vp_in_nI (by omega) (by decide)
    have v8 : vp_in (nI j) 8 := vp_in_nI (by omega) (by decide)
    have jc : (nI j).toNatClampNeg = j := nI_clamp (by omega)
    have jn : j < n := by omega
    by_cases g : ne j = nI t
    · obtain ⟨r, r2, r3⟩ := ih (j + 1) (s + 1) (by omega)
      refine ⟨r, fun post hp => br_f z ⟨v6, ?_⟩, fun now lat R post hp => br_f z ⟨v8, ?_⟩⟩
      · rw [jc]; exact br_t g (nm_e (nm_r (nI_1 j) (r2 post hp)))
      · rw [jc]; exact br_t ((er_99 ht hN R jn).mpr g) (nm_e (nm_r (nI_1 j) (r3 now lat R post hp)))
    · obtain ⟨r, r2, r3⟩ := ih (j + 1) s (by omega)
      refine ⟨r, fun post hp => br_f z ⟨v6, ?_⟩, fun now lat R post hp => br_f z ⟨v8, ?_⟩⟩
      · rw [jc]; exact br_f g (nm_r (Int32.add_zero s) (nm_r (nI_1 j) (r2 post hp)))
      · rw [jc]; exact br_f (fun w => g ((er_99 ht hN R jn).mp w)) (nm_r (nI_1 j) (r3 now lat R post hp))
def er_grO (n c t : Nat) (sk cu : Int32) (tl hd ga ow ne wa qu : Nat → Int32) (m j : Nat) (s r : Int32) : Prop :=
  (∀ post : Int32 → SX → Prop, post r (nI n, nI c, nI t, sk, cu, tl, hd, ga, ow, ne, wa, qu) → wX_greatest_8 post (nI n) (nI c) (nI t) sk cu tl hd ga ow ne wa qu m s (nI j)) ∧
    (∀ now lat : Nat → Int32, ey_N n t (ex_F ne) now → ∀ post : Int32 → SY → Prop, post r (nI n, nI c, ow, tl, hd, ga, now, lat) → wY_greatest_11 post (nI n) (nI c) ow tl hd ga now lat m s (nI j))
theorem er_greatest (h6 : n ≤ 6) (ht : t ≤ 31) (hN : eg_In n t (ex_F ne)) : ∀ (d j : Nat) (s : Int32), j + d = n → ∃ r, er_grO n c t sk cu tl hd ga ow ne wa qu (d + 1) j s r := by
  intro d
  induction d with
  | zero =>
    intro j s hj
    have z : nI n ≤ nI j := nI_le (by omega) (by omega)
    exact ⟨s, fun post hp => br_t z hp, fun now lat R post hp => br_t z hp⟩
  | succ d ih =>
    intro j s hj
    have z : ¬ nI n ≤ nI j := nI_ge (by omega) (by omega)
    have v6 : vp_in (nI j) 6 := vp_in_nI (by omega) (by decide)
    have v8 : vp_in (nI j) 8 := vp_in_nI (by omega) (by decide)
    have jc : (nI j).toNatClampNeg = j := nI_clamp (by omega)
    have jn : j < n := by omega
    by_cases g : ne j = nI t
    · obtain ⟨r, r2, r3⟩ := ih (j + 1) s (by omega)
      refine ⟨r, fun post hp => br_f z ⟨v6, ?_⟩, fun now lat R post hp => br_f z ⟨v8, ?_⟩⟩
      · rw [jc]; exact br_t ((er_tle ht hN jn).mpr g) (nm_r (nI_1 j) (r2 post hp))
      · rw [jc]; exact br_t ((er_99 ht hN R jn).mpr g) (nm_r (nI_1 j) (r3 now lat R post hp))
    · by_cases q : ne j ≤ s
      · obtain ⟨r, r2, r3⟩ := ih (j + 1) s (by omega)
        refine ⟨r, fun post hp => br_f z ⟨v6, ?_⟩, fun now lat R post hp => br_f z ⟨v8, ?_⟩⟩
        · rw [jc]; exact br_f (fun w => g ((er_tle ht hN jn).mp w)) ⟨v6, br_t q (nm_r (nI_1 j) (r2 post hp))⟩
        · rw [jc, er_eq ht hN R jn g]; exact br_f (fun w => g ((er_99 ht hN R jn).mp ((er_eq ht hN R jn g).trans w))) ⟨v8, br_t q (nm_r (nI_1 j) (r3 now lat R post hp))⟩
      · obtain ⟨r, r2, r3⟩ := ih (j + 1) (ne j) (by omega)
        refine ⟨r, fun post hp => br_f z ⟨v6, ?_⟩, fun now lat R post hp => br_f z ⟨v8, ?_⟩⟩
        · rw [jc]; exact br_f (fun w => g ((er_tle ht hN jn).mp w)) ⟨v6, br_f q ⟨v6, nm_e (nm_r (nI_1 j) (r2 post hp))⟩⟩
        · rw [jc, er_eq ht hN R jn g]; exact br_f (fun w => g ((er_99 ht hN R jn).mp ((er_eq ht hN R jn g).trans w))) ⟨v8, br_f q ⟨v8, nm_e (nm_r (nI_1 j) (r3 now lat R post hp))⟩⟩
end
end
section
/-! the methods that solve -/
section
variable {n c t : Nat} {tl hd ga ow : Nat → Int32}
theorem eg_Sol_P {P P' : Nat → Int32} {sk : Int32} {T : Int} {F : Nat → Int} (hP : ∀ v, v < n → P v = P' v) (h : eg_Sol n c tl hd ga P sk T F) : eg_Sol n c tl hd ga P' sk T F := by
  refine ⟨h.1, fun v hv => ?_, fun G g1 g2 v hv => h.2.2 G g1 (fun w hw => ?_) v hv⟩
  · rw [← hP v hv]; exact h.2.1 v hv
  · rw [hP w hw]; exact g2 w hw
theorem ir_refresh {cu : Int32} {ne wa qu : Nat → Int32} (hG : eg_G n c tl hd ga) (ht : t ≤ 31) (hS : ¬ cu = 0 → eg_Sol n c tl hd ga ow (-1) t (ex_F ne)) {post : SX → Prop}
    (K : ∀ (cu' : Int32) (ne' wa' qu' : Nat → Int32), ¬ cu' = 0 → eg_Sol n c tl hd ga ow (-1) t (ex_F ne') → post (nI n, nI c, nI t, -1, cu', tl, hd, ga, ow, ne', wa', qu')) :
    wpX_refresh post (nI n, nI c, nI t, -1, cu, tl, hd, ga, ow, ne, wa, qu) :=
  br_c (fun _ => ex_solve hG ht (fun ne' wa' qu' s => K 1 ne' wa' qu' (by decide) s)) (fun h => K cu ne wa qu h (hS h))
theorem ir_work {P ne now lat : Nat → Int32} {x1 x2 x3 : Int32} (hG : eg_G n c tl hd ga) (ht : t = 6 * (n - 1) + 1) (hP : ∀ v, v < n → ey_P x1 x2 ow v = P v) (hs : eg_Sol n c tl hd ga P x3 t (ex_F ne)) {post : SY → Prop}
    (K : ∀ now' lat' : Nat → Int32, ey_N n t (ex_F ne) now' → post (nI n, nI c, ow, tl, hd, ga, now', lat')) : wpY_work post (nI n, nI c, ow, tl, hd, ga, now, lat) x1 x2 x3 :=
  ey_work hG ht (fun now' lat' F hF hN => K now' lat' (fun v hv => by rw [hN v hv, eg_Sol_uniq (eg_Sol_P hP hF) hs hv]))
theorem ir_P (h6 : n ≤ 6) : ∀ v, v < n → ey_P (-1) 0 ow v = ow v := by
  intro v hv
  refine if_neg (fun h => ?_)
  rw [ei_eq, ei_m1, nI_toInt (by omega)] at h
  omega
theorem ir_work0 {ne now lat : Nat → Int32} (hG : eg_G n c tl hd ga) (ht : t = 6 * (n - 1) + 1) (hs : eg_Sol n c tl hd ga ow (-1) t (ex_F ne)) {post : SY → Prop}
    (K : ∀ now' lat' : Nat → Int32, ey_N n t (ex_F ne) now' → post (nI n, nI c, ow, tl, hd, ga, now', lat')) : wpY_work post (nI n, nI c, ow, tl, hd, ga, now, lat) (-1) 0 (-1) :=
  ir_work hG ht (ir_P hG.2.1) hs K
end
theorem i_vc_need {k : Nat} {u : SX} {v : SY} (I : i_Rel k u v) (hk : k + 4 ≤ 2049) (v1 : Int32) : wpX_need (fun r u' => wpY_need (fun r' v' => r' = r ∧ i_Rel (k + 4) u' v') v v1) u v1 := by
  refine ir_el (P := fun u v => wpX_need (fun r u' => wpY_need (fun r' v' => r' = r ∧ i_Rel (k + 4) u' v') v v1) u v1) ?_ I
  intro n c cu tl hd ga ow ne wa qu now lat hG hD hS
  have h6 : n ≤ 6 := hG.2.1
  have ht : 6 * (n - 1) + 1 ≤ 31 := by omega
  unfold wpX_need wpY_need
  dsimp only
  rcases er_vx (n := n) (by omega) v1 with hx | ⟨v, hv, rfl⟩
  · exact er_xv_f hx (br_t rfl (er_yv_f hx (br_f (by decide) ⟨rfl, ir_mk hG hD hS⟩)))
  refine er_xv_t h6 hv (br_f (by decide) (ir_refresh hG ht hS (fun cu' ne' wa' qu' hc hs => ?_)))
  dsimp only
  refine er_shX h6 hv (er_yv_t h6 hv (br_t rfl (ir_work0 hG rfl hs (fun now' lat' R => ?_))))
  dsimp only
  exact er_shY h6 ht hs.1 R hv ⟨rfl, ir_mk hG hD (fun _ => hs)⟩
theorem i_vc_safe {k : Nat} {u : SX} {v : SY} (I : i_Rel k u v) (hk : k + 4 ≤ 2049) (v1 : Int32) : wpX_safe (fun r u' => wpY_safe (fun r' v' => r' = r ∧ i_Rel (k + 4) u' v') v v1) u v1 := by
  refine ir_el (P := fun u v => wpX_safe (fun r u' => wpY_safe (fun r' v' => r' = r ∧ i_Rel (k + 4) u' v') v v1) u v1) ?_ I
  intro n c cu tl hd ga ow ne wa qu now lat hG hD hS
  have h6 : n ≤ 6 := hG.2.1
  have ht : 6 * (n - 1) + 1 ≤ 31 := by omega
  unfold wpX_safe wpY_safe
  dsimp only
  refine ir_refresh hG ht hS (fun cu' ne' wa' qu' hc hs => ?_)
  dsimp only
  obtain ⟨r, r2, r3⟩ := er_safe (c := c) (sk := -1) (cu := cu') (tl := tl) (hd := hd) (ga := ga) (ow := ow) (ne := ne') (wa := wa') (qu := qu') h6 ht hs.1 v1 n 0 0 (by omega)
  refine ⟨n + 1, r2 _ (ir_work0 hG rfl hs (fun now' lat' R => ?_))⟩
  dsimp only
  exact ⟨n + 1, r3 now' lat' R _ ⟨rfl, ir_mk hG hD (fun _ => hs)⟩⟩
theorem i_vc_hopeless {k : Nat} {u : SX} {v : SY} (I : i_Rel k u v) (hk : k + 4 ≤ 2049) : wpX_hopeless (fun r u' => wpY_hopeless (fun r' v' => r' = r ∧ i_Rel (k + 4) u' v') v) u := by
  refine ir_el (P := fun u v => wpX_hopeless (fun r u' => wpY_hopeless (fun r' v' => r' = r ∧ i_Rel (k + 4) u' v') v) u) ?_ I
  intro n c cu tl hd ga ow ne wa qu now lat hG hD hS
  have h6 : n ≤ 6 := hG.2.1
  have ht : 6 * (n - 1) + 1 ≤ 31 := by omega
  unfold wpX_hopeless wpY_hopeless
  dsimp only
  refine ir_refresh hG ht hS (fun cu' ne' wa' qu' hc hs => ?_)
  dsimp only
  obtain ⟨r, r2, r3⟩ := er_hopeless (c := c) (sk := -1) (cu := cu') (tl := tl) (hd := hd) (ga := ga) (ow := ow) (ne := ne') (wa := wa') (qu := qu') h6 ht hs.1 n 0 0 (by omega)
  refine ⟨n + 1, r2 _ (ir_work0 hG rfl hs (fun now' lat' R => ?_))⟩
  dsimp only
  exact ⟨n + 1, r3 now' lat' R _ ⟨rfl, ir_mk hG hD (fun _ => hs)⟩⟩
theorem i_vc_greatest {k : Nat} {u : SX} {v : SY} (I : i_Rel k u v) (hk : k + 4 ≤ 2049) : wpX_greatest (fun r u' => wpY_greatest (fun r' v' => r' = r ∧ i_Rel (k + 4) u' v') v) u := by
  refine ir_el (P := fun u v => wpX_greatest (fun r u' => wpY_greatest (fun r' v' => r' = r ∧ i_Rel (k + 4) u' v') v) u) ?_ I
  intro n c cu tl hd ga ow ne wa qu now lat hG hD hS
  have h6 : n ≤ 6 := hG.2.1
  have ht : 6 * (n - 1) + 1 ≤ 31 := by omega
  unfold wpX_greatest wpY_greatest
  dsimp only
  refine ir_refresh hG ht hS (fun cu' ne' wa' qu' hc hs => ?_)
  dsimp only
  obtain ⟨r, r2, r3⟩ := er_greatest (c := c) (sk := -1) (cu := cu') (tl := tl) (hd := hd) (ga := ga) (ow := ow) (ne := ne') (wa := wa') (qu := qu') h6 ht hs.1 n 0 0 (by omega)
  refine ⟨n + 1, r2 _ (ir_work0 hG rfl hs (fun now' lat' R => ?_))⟩
  dsimp only
  exact ⟨n + 1, r3 now' lat' R _ ⟨rfl, ir_mk hG hD (fun _ => hs)⟩⟩
theorem i_vc_choice {k : Nat} {u : SX} {v : SY} (I : i_Rel k u v) (hk : k + 4 ≤ 2049) (v1 : Int32) : wpX_choice (fun r u' => wpY_choice (fun r' v' => r' = r ∧ i_Rel (k + 4) u' v') v v1) u v1 := by
  refine ir_el (P := fun u v => wpX_choice (fun r u' => wpY_choice (fun r' v' => r' = r ∧ i_Rel (k + 4) u' v') v v1) u v1) ?_ I
  intro n c cu tl hd ga ow ne wa qu now lat hG hD hS
  have h6 : n ≤ 6 := hG.2.1
  have ht : 6 * (n - 1) + 1 ≤ 31 := by omega
  unfold wpX_choice wpY_choice
  dsimp only
  rcases er_vx (n := n) (by omega) v1 with hx | ⟨v, hv, rfl⟩
  · exact er_xv_f hx (br_t rfl (er_yv_f hx (br_f (by decide) ⟨rfl, ir_mk hG hD hS⟩)))
  refine er_xv_t h6 hv (br_f (by decide) (ir_refresh hG ht hS (fun cu' ne' wa' qu' hc hs => ?_)))
  dsimp only
  obtain ⟨r, r1, r2, r3⟩ := er_choice (sk := -1) (cu := cu') (ow := ow) (wa := wa') (qu := qu') hG ht hs.1 (nI v) c 0 (by omega)
  refine ⟨c + 1, r2 _ (er_yv_t h6 hv (br_t rfl (ir_work0 hG rfl hs (fun now' lat' R => ?_))))⟩
  dsimp only
  exact ⟨c + 1, r3 now' lat' R _ ⟨rfl, ir_mk hG hD (fun _ => hs)⟩⟩
theorem i_vc_choices {k : Nat} {u : SX} {v : SY} (I : i_Rel k u v) (hk : k + 4 ≤ 2049) (v1 : Int32) : wpX_choices (fun r u' => wpY_choices (fun r' v' => r' = r ∧ i_Rel (k + 4) u' v') v v1) u v1 := by
  refine ir_el (P := fun u v => wpX_choices (fun r u' => wpY_choices (fun r' v' => r' = r ∧ i_Rel (k + 4) u' v') v v1) u v1) ?_ I
  intro n c cu tl hd ga ow ne wa qu now lat hG hD hS
  have h6 : n ≤ 6 := hG.2.1
  have ht : 6 * (n - 1) + 1 ≤ 31 := by omega
  unfold wpX_choices wpY_choices
  dsimp only
  rcases er_vx (n := n) (by omega) v1 with hx | ⟨v, hv, rfl⟩
  · exact er_xv_f hx (br_t rfl (er_yv_f hx (br_f (by decide) ⟨rfl, ir_mk hG hD hS⟩)))
  refine er_xv_t h6 hv (br_f (by decide) (ir_refresh hG ht hS (fun cu' ne' wa' qu' hc hs => ?_)))
  dsimp only
  obtain ⟨r, r2, r3⟩ := er_choices (sk := -1) (cu := cu') (ow := ow) (wa := wa') (qu := qu') hG ht hs.1 (nI v) c 0 0 (by omega)
  refine ⟨c + 1, r2 _ (er_yv_t h6 hv (br_t rfl (ir_work0 hG rfl hs (fun now' lat' R => ?_))))⟩
  dsimp only
  exact ⟨c + 1, r3 now' lat' R _ ⟨rfl, ir_mk hG hD (fun _ => hs)⟩⟩
theorem i_vc_needWithout {k : Nat} {u : SX} {v : SY} (I : i_Rel k u v) (hk : k + 4 ≤ 2049) (v1 : Int32) (v2 : Int32) : wpX_needWithout (fun r u' => wpY_needWithout (fun r' v' => r' = r ∧ i_Rel (k + 4) u' v') v v1 v2) u v1 v2 := by
  refine ir_el (P := fun u v => wpX_needWithout (fun r u' => wpY_needWithout (fun r' v' => r' = r ∧ i_Rel (k + 4) u' v') v v1 v2) u v1 v2) ?_ I
  intro n c cu tl hd ga ow ne wa qu now lat hG hD hS
  have h6 : n ≤ 6 := hG.2.1
  have h14 : c ≤ 14 := hG.2.2.1
  have ht : 6 * (n - 1) + 1 ≤ 31 := by omega
  unfold wpX_needWithout wpY_needWithout
  dsimp only
  rcases er_vx (n := n) (by omega) v1 with hx | ⟨v, hv, rfl⟩
  · exact er_xv_f hx (br_t rfl (er_yv_f hx (br_f (by decide) ⟨rfl, ir_mk hG hD hS⟩)))
  refine er_xv_t h6 hv (br_f (by decide) ?_)
  rcases er_vx h14 v2 with hx | ⟨e, he, rfl⟩
  · exact er_xe_f hx (br_t rfl (er_yv_t h6 hv (br_t rfl (er_ye_f hx (br_f (by decide) ⟨rfl, ir_mk hG hD hS⟩)))))
  refine er_xe_t h14 he (br_f (by decide) (ex_solve hG ht (fun ne' wa' qu' hs => ?_)))
  dsimp only
  refine er_shX h6 hv (er_yv_t h6 hv (br_t rfl (er_ye_t h14 he (br_t rfl (ir_work hG rfl (ir_P h6) hs (fun now' lat' R => ?_))))))
  dsimp only
  exact er_shY h6 ht hs.1 R hv ⟨rfl, ir_mk0 hG hD⟩
theorem ir_back {f : Nat → Int32} {a : Nat} {x : Int32} : upd (upd f a x) a (f a) = f := by
  funext j
  by_cases z : j = a
  · rw [z, pk_us]
  · rw [pk_un z, pk_un z]
theorem i_vc_needOf {k : Nat} {u : SX} {v : SY} (I : i_Rel k u v) (hk : k + 4 ≤ 2049) (v1 : Int32) (v2 : Int32) : wpX_needOf (fun r u' => wpY_needOf (fun r' v' => r' = r ∧ i_Rel (k + 4) u' v') v v1 v2) u v1 v2 := by
  refine ir_el (P := fun u v => wpX_needOf (fun r u' => wpY_needOf (fun r' v' => r' = r ∧ i_Rel (k + 4) u' v') v v1 v2) u v1 v2) ?_ I
  intro n c cu tl hd ga ow ne wa qu now lat hG hD hS
  have h6 : n ≤ 6 := hG.2.1
  have ht : 6 * (n - 1) + 1 ≤ 31 := by omega
  unfold wpX_needOf wpY_needOf
  dsimp only
  rcases er_vx (n := n) (by omega) v1 with hx | ⟨v, hv, rfl⟩
  · exact er_xv_f hx (br_t rfl (er_yv_f hx (br_f (by decide) ⟨rfl, ir_mk hG hD hS⟩)))
  have v6 : vp_in (nI v) 6 := vp_in_nI (by omega) (by decide)
  refine er_xv_t h6 hv (br_f (by decide) ?_)
  by_cases hp : v2 = 0 ∨ v2 = 1
  · have q := ir_01t hp
    have go : ∀ post : Int32 → SX → Prop, (∀ ne' wa' qu' : Nat → Int32, eg_Sol n c tl hd ga (upd ow v v2) (-1) ((6 * (n - 1) + 1 : Nat) : Int) (ex_F ne') →
        post (er_sh (6 * (n - 1) + 1) ne' v) (nI n, nI c, nI (6 * (n - 1) + 1), -1, 0, tl, hd, ga, ow, ne', wa', qu')) →
        wX_needOf_22 post (nI v) v2 (nI n) (nI c) (nI (6 * (n - 1) + 1)) (-1) cu tl hd ga ow ne wa qu := by
      intro post K
      refine ⟨v6, ?_⟩
      rw [nI_clamp (show v < 2 ^ 31 by omega)]
      refine nm_e ⟨v6, nm_e (ex_solve hG ht (fun ne' wa' qu' hs => ?_))⟩
      dsimp only
      exact ⟨v6, nm_r ir_back (er_shX h6 hv (K ne' wa' qu' hs))⟩
    refine br_c (fun _ => go _ (fun ne' wa' qu' hs => ?_)) (fun h0 => br_c (fun _ => go _ (fun ne' wa' qu' hs => ?_)) (fun h1 => absurd hp (fun w => w.elim h0 h1)))
    all_goals
      refine er_yv_t h6 hv (br_t rfl (br_f q.1 (br_t q.2 (ir_work hG rfl (P := upd ow v v2) (fun w hw => ?_) hs (fun now' lat' R => ?_)))))
      · show (if nI w = nI v then v2 else ow w) = if w = v then v2 else ow w
        by_cases z : w = v
        · rw [if_pos z, if_pos (congrArg nI z)]
        · rw [if_neg z, if_neg (fun y => z ((nI_eq (by omega) (by omega)).mp y))]
      · dsimp only
        exact er_shY h6 ht hs.1 R hv ⟨rfl, ir_mk0 hG hD⟩
  · refine br_f (fun w => hp (Or.inl w)) (br_f (fun w => hp (Or.inr w)) (er_yv_t h6 hv (br_t rfl ?_)))
    refine br_c (fun _ => ⟨rfl, ir_mk hG hD hS⟩) (fun a => ?_)
    rcases ir_01 (fun w => hp (Or.inl w)) (fun w => hp (Or.inr w)) with b | b
    · exact absurd b a
    · exact br_f b ⟨rfl, ir_mk hG hD hS⟩
end
section
/-! store -/
section
variable {n c t : Nat} {cu : Int32} {tl hd ga ow ne wa qu : Nat → Int32}
theorem is_chX {at' : Nat} (h6 : n ≤ 6) (hv : at' < n) (hc : ¬ cu = 0) {post : Int32 → SX → Prop} {m : Nat}
    (h : wX_choice_16 post (nI at') (nI n) (nI c) (nI t) (-1) cu tl hd ga ow ne wa qu m (nI 0)) :
    wpX_choice post (nI n, nI c, nI t, -1, cu, tl, hd, ga, ow, ne, wa, qu) (nI at') := by
  unfold wpX_choice
  dsimp only
  refine er_xv_t h6 hv (br_f (by decide) ?_)
  unfold wpX_refresh
  dsimp only
  exact br_f hc ⟨m, h⟩
def is_O (n c t : Nat) (cu : Int32) (tl hd ga ow ne wa qu : Nat → Int32) (p m at' j : Nat) (s r : Int32) : Prop :=
  (∀ post : Int32 → SX → Prop, post r (nI n, nI c, nI t, -1, cu, tl, hd, ga, ow, ne, wa, qu) → wX_store_54 post (nI (p / 128)) m (nI at') s (nI j) (nI n) (nI c) (nI t) (-1) cu tl hd ga ow ne wa qu) ∧
    (∀ now lat : Nat → Int32, ey_N n t (ex_F ne) now → ∀ post : Int32 → SY → Prop, post r (nI n, nI c, ow, tl, hd, ga, now, lat) → wY_store_59 post (nI p) (nI n) (nI c) ow tl hd ga now lat m s (nI at') (nI j))
theorem is_st (hG : eg_G n c tl hd ga) (ht : t ≤ 31) (hN : eg_In n t (ex_F ne)) (hc : ¬ cu = 0) {p : Nat} (hp : p < 2 ^ 31) (hp30 : p / 128 ≤ 30) :
    ∀ (d j at' : Nat) (s : Int32), j + d = p / 128 → at' < n → ∃ r, is_O n c t cu tl hd ga ow ne wa qu p (d + 1) at' j s r := by
  have h6 : n ≤ 6 := hG.2.1
  have h14 : c ≤ 14 := hG.2.2.1
  have pd : nI p / 128 = nI (p / 128) := pk_div (d := 128) hp (by decide) (by decide)
  have d0 : ¬ (128 : Int32) = 0 := by decide
  intro d
  induction d with
  | zero =>
    intro j at' s hj ha
    have z : nI (p / 128) ≤ nI j := nI_le (by omega) (by omega)
    exact ⟨s, fun post h => br_t z h, fun now lat R post h => ⟨d0, br_t (by rw [pd]; exact z) h⟩⟩
  | succ d ih =>
    intro j at' s hj ha
    have z : ¬ nI (p / 128) ≤ nI j := nI_ge (by omega) (by omega)
    have z' : ¬ nI p / 128 ≤ nI j := by rw [pd]; exact z
    obtain ⟨q, q1, q2, q3⟩ := er_choice (sk := -1) (cu := cu) (ow := ow) (wa := wa) (qu := qu) hG ht hN (nI at') c 0 (by omega)
    rcases q1 with rfl | ⟨e, he, rfl⟩
    · refine ⟨s, fun post h => br_f z (is_chX h6 ha hc (q2 _ (br_f (by decide) h))), fun now lat R post h => ⟨d0, br_f z' ⟨c + 1, q3 now lat R _ (br_f (by decide) h)⟩⟩⟩
    · obtain ⟨b, hb, eb⟩ := hG.2.2.2.2.1 e
      obtain ⟨r, r2, r3⟩ := ih (j + 1) b (s + ga e) (by omega) hb
      have ec : (nI e).toNatClampNeg = e := nI_clamp (by omega)
      have ve : vp_in (nI e) 14 := vp_in_nI (by omega) (by decide)
      have e0 : 0 ≤ nI e := nI_pos' (by omega)
      have k1 : s + ga (nI e).toNatClampNeg = s + ga e := by rw [ec]
      have k2 : hd (nI e).toNatClampNeg = nI b := by rw [ec, eb]
      refine ⟨r, fun post h => br_f z (is_chX h6 ha hc (q2 _ ?_)), fun now lat R post h => ⟨d0, br_f z' ⟨c + 1, q3 now lat R _ ?_⟩⟩⟩
      · exact br_t e0 ⟨ve, nm_r k1 ⟨ve, nm_r k2 (nm_r (nI_1 j) (r2 post h))⟩⟩
      · exact br_t e0 ⟨ve, nm_r k1 ⟨ve, nm_r k2 (nm_r (nI_1 j) (r3 now lat R post h))⟩⟩
end
theorem i_vc_store {k : Nat} {u : SX} {v : SY} (I : i_Rel k u v) (hk : k + 4 ≤ 2049) (v1 : Int32) (v2 : Int32) : wpX_store (fun r u' => wpY_store (fun r' v' => r' = r ∧ i_Rel (k + 4) u' v') v v1 v2) u v1 v2 := by
  refine ir_el (P := fun u v => wpX_store (fun r u' => wpY_store (fun r' v' => r' = r ∧ i_Rel (k + 4) u' v') v v1 v2) u v1 v2) ?_ I
  intro n c cu tl hd ga ow ne wa qu now lat hG hD hS
  have h6 : n ≤ 6 := hG.2.1
  have h14 : c ≤ 14 := hG.2.2.1
  have ht : 6 * (n - 1) + 1 ≤ 31 := by omega
  have d0 : ¬ (128 : Int32) = 0 := by decide
  unfold wpX_store wpY_store
  dsimp only
  rcases er_vx (n := n) (by omega) v1 with hx | ⟨v, hv, rfl⟩
  · exact er_xv_f hx (br_t rfl (er_yv_f hx (br_f (by decide) ⟨rfl, ir_mk hG hD hS⟩)))
  refine er_xv_t h6 hv (br_f (by decide) ?_)
  by_cases hn : v2 < 0
  · exact nm_e (nm_e (br_t hn (er_yv_t h6 hv (br_t rfl (br_t hn ⟨rfl, ir_mk hG hD hS⟩)))))
  obtain ⟨p, hp, rfl⟩ := nI_of hn
  have e1 : nI p >>> ((7 : Int32) &&& 31) = nI (p / 128) := pk_shrN hp _ 7 (by decide)
  have e2 : nI p &&& 127 = nI (p % 128) := pk_andN (show p < 2 ^ 32 by omega) 7 (by decide)
  have e3 : nI p / 128 = nI (p / 128) := pk_div (d := 128) hp (by decide) (by decide)
  have e4 : nI p - nI p / 128 * 128 = nI (p % 128) := pk_rem (d := 128) hp (by decide) (by decide)
  refine nm_r e1 (nm_r e2 (br_f hn ?_))
  rw [e4]
  by_cases g1 : 100 < p % 128
  · refine br_t (nI_lt (a := 100) g1 (by omega)) (er_yv_t h6 hv (br_t rfl (br_f hn ⟨d0, ?_⟩)))
    refine br_c (fun _ => ⟨rfl, ir_mk hG hD hS⟩) (fun _ => ⟨d0, br_f (nI_ge (a := 100) g1 (by omega)) ⟨rfl, ir_mk hG hD hS⟩⟩)
  refine br_f (nI_nlt (b := p % 128) (a := 100) (by omega) (by omega)) ?_
  by_cases g2 : 30 < p / 128
  · refine br_f (nI_ge (a := 30) g2 (by omega)) (er_yv_t h6 hv (br_t rfl (br_f hn ⟨d0, br_t ?_ ⟨rfl, ir_mk hG hD hS⟩⟩)))
    rw [e3]
    exact nI_lt (a := 30) g2 (by omega)
  refine br_t (nI_le (b := 30) (by omega) (by omega)) ?_
  have y2 : ¬ 30 < nI p / 128 := by rw [e3]; exact nI_nlt (a := 30) (by omega) (by omega)
  have y1 : nI (p % 128) ≤ 100 := nI_le (b := 100) (by omega) (by omega)
  by_cases s0 : p / 128 = 0
  · have zx : nI (p / 128) ≤ 0 := by rw [s0]; exact nI_le (a := 0) (b := 0) (by omega) (by omega)
    have hs0 : ∀ post : SY → Prop, (∀ now' lat' : Nat → Int32, post (nI n, nI c, ow, tl, hd, ga, now', lat')) → wpY_work post (nI n, nI c, ow, tl, hd, ga, now, lat) (-1) 0 (-1) :=
      fun post K => ey_work hG rfl (fun now' lat' _ _ _ => K now' lat')
    refine ⟨1, br_t zx (er_yv_t h6 hv (br_t rfl (br_f hn ⟨d0, br_f y2 ⟨d0, br_t y1 (hs0 _ (fun now' lat' => ?_))⟩⟩)))⟩
    exact ⟨d0, nm_e ⟨1, d0, br_t (by rw [e3]; exact zx) ⟨rfl, ir_mk hG hD hS⟩⟩⟩
  · obtain ⟨d, hd'⟩ : ∃ d, p / 128 = d + 1 := ⟨p / 128 - 1, by omega⟩
    have zx : ¬ nI (p / 128) ≤ 0 := nI_nle (by omega) (by omega)
    have zy : ¬ nI p / 128 ≤ 0 := by rw [e3]; exact zx
    refine ⟨d + 1 + 1, br_f zx ?_⟩
    unfold wpX_choice
    dsimp only
    refine er_xv_t h6 hv (br_f (by decide) (ir_refresh hG ht hS (fun cu' ne' wa' qu' hc hs => ?_)))
    dsimp only
    obtain ⟨q, q1, q2, q3⟩ := er_choice (sk := -1) (cu := cu') (ow := ow) (wa := wa') (qu := qu') hG ht hs.1 (nI v) c 0 (by omega)
    refine ⟨c + 1, q2 _ ?_⟩
    dsimp only
    rcases q1 with rfl | ⟨e, he, rfl⟩
    · refine br_f (by decide) (er_yv_t h6 hv (br_t rfl (br_f hn ⟨d0, br_f y2 ⟨d0, br_t y1 (ir_work0 hG rfl hs (fun now' lat' R => ?_))⟩⟩)))
      dsimp only
      exact ⟨d0, nm_e ⟨d + 1 + 1, d0, br_f zy ⟨c + 1, q3 now' lat' R _ (br_f (by decide) ⟨rfl, ir_mk hG hD (fun _ => hs)⟩)⟩⟩⟩
    · obtain ⟨b, hb, eb⟩ := hG.2.2.2.2.1 e
      obtain ⟨r, r2, r3⟩ := is_st (ow := ow) (wa := wa') (qu := qu') hG ht hs.1 hc hp (by omega) d 1 b (nI (p % 128) + ga e) (by omega) hb
      have ec : (nI e).toNatClampNeg = e := nI_clamp (by omega)
      have ve : vp_in (nI e) 14 := vp_in_nI (by omega) (by decide)
      have e0 : 0 ≤ nI e := nI_pos' (by omega)
      have k1 : nI (p % 128) + ga (nI e).toNatClampNeg = nI (p % 128) + ga e := by rw [ec]
      have k2 : hd (nI e).toNatClampNeg = nI b := by rw [ec, eb]
      refine br_t e0 ⟨ve, nm_r k1 ⟨ve, nm_r k2 (nm_r (nI_1 0) (r2 _ ?_))⟩⟩
      refine er_yv_t h6 hv (br_t rfl (br_f hn ⟨d0, br_f y2 ⟨d0, br_t y1 (ir_work0 hG rfl hs (fun now' lat' R => ?_))⟩⟩))
      dsimp only
      exact ⟨d0, nm_e ⟨d + 1 + 1, d0, br_f zy ⟨c + 1, q3 now' lat' R _ (br_t e0 ⟨ve, nm_r k1 ⟨ve, nm_r k2 (nm_r (nI_1 0) (r3 now' lat' R _ ⟨rfl, ir_mk hG hD (fun _ => hs)⟩))⟩⟩)⟩⟩⟩
end
