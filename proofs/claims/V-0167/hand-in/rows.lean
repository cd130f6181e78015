section
theorem pk_us {f : Nat → Int32} {k : Nat} {x : Int32} : upd f k x k = x := if_pos rfl
theorem pk_un {f : Nat → Int32} {k j : Nat} {x : Int32} (h : j ≠ k) : upd f k x j = f j := if_neg h
theorem pk_sub {a b : Nat} (h : b ≤ a) : nI a - nI b = nI (a - b) := by
  obtain ⟨c, rfl⟩ : ∃ c, a = c + b := ⟨a - b, by omega⟩
  rw [← nI_add, Int32.add_sub_cancel, Nat.add_sub_cancel]
theorem pk_m1 (n : Nat) : nI (n + 1) + (-1) = nI n := by
  rw [← nI_1, Int32.add_assoc, show (1 : Int32) + (-1) = 0 from rfl, Int32.add_zero]
theorem pk_mul (a b : Nat) : nI a * nI b = nI (a * b) := (Int32.ofNat_mul a b).symm
theorem pk_sub_toInt {a b : Nat} (ha : a < 2 ^ 30) (hb : b < 2 ^ 30) : (nI a - nI b).toInt = (a : Int) - b := by
  rw [Int32.toInt_sub, nI_toInt (by omega), nI_toInt (by omega)]
  exact Int.bmod_eq_of_le (by omega) (by omega)
theorem pk_sneg {a b : Nat} (hb : b < 2 ^ 30) (h : a < b) : nI a - nI b < 0 := by
  rw [Int32.lt_iff_toInt_lt, pk_sub_toInt (by omega) hb, show (0 : Int32).toInt = 0 from by decide]
  omega
theorem pk_ix (x : Int32) {n : Nat} (hn : n < 2 ^ 31) : x < 0 ∨ nI n ≤ x ∨ ∃ j : Nat, j < n ∧ x = nI j := by
  by_cases h : x < 0
  · exact Or.inl h
  · obtain ⟨j, hj, rfl⟩ := nI_of h
    by_cases h2 : j < n
    · exact Or.inr (Or.inr ⟨j, h2, rfl⟩)
    · exact Or.inr (Or.inl (nI_le (by omega) hj))
theorem pk_le {x y : Int32} {A B : Prop} (a b : Nat) (f : a ≤ b → A) (g : b < a → B) (hx : x = nI a := by rfl) (hy : y = nI b := by rfl) (ha : a < 2 ^ 31 := by omega) (hb : b < 2 ^ 31 := by omega) : (x ≤ y → A) ∧ (¬ x ≤ y → B) := by
  subst hx hy
  rw [nI_leI ha hb]
  exact ⟨f, fun z => g (by omega)⟩
theorem pk_lt {x y : Int32} {A B : Prop} (a b : Nat) (f : a < b → A) (g : b ≤ a → B) (hx : x = nI a := by rfl) (hy : y = nI b := by rfl) (ha : a < 2 ^ 31 := by omega) (hb : b < 2 ^ 31 := by omega) : (x < y → A) ∧ (¬ x < y → B) := by
  subst hx hy
  rw [nI_ltI ha hb]
  exact ⟨f, fun z => g (by omega)⟩
theorem pk_eq {x y : Int32} {A B : Prop} (a b : Nat) (f : a = b → A) (g : a ≠ b → B) (hx : x = nI a := by rfl) (hy : y = nI b := by rfl) (ha : a < 2 ^ 31 := by omega) (hb : b < 2 ^ 31 := by omega) : (x = y → A) ∧ (¬ x = y → B) := by
  subst hx hy
  rw [nI_eq ha hb]
  exact ⟨f, g⟩
theorem pk_in {x : Int32} (n N : Nat) (h : n < N) (hx : x = nI n := by rfl) (hN : N < 2 ^ 31 := by omega) : vp_in x N := by
  subst hx
  exact vp_in_nI h hN
theorem pk_cl {x : Int32} (n : Nat) (hx : x = nI n := by rfl) (h : n < 2 ^ 31 := by omega) : x.toNatClampNeg = n := by
  subst hx
  exact nI_clamp h
theorem pk_tn {n : Nat} (h : n < 2 ^ 32) : (nI n).toBitVec.toNat = n := Nat.mod_eq_of_lt h
theorem pk_and (x : Int32) {m : Int32} (k : Nat) (hm : m.toBitVec.toNat = 2 ^ k - 1) : x &&& m = nI (x.toBitVec.toNat % 2 ^ k) := by
  apply Int32.toBitVec_inj.mp
  apply BitVec.eq_of_toNat_eq
  rw [Int32.toBitVec_and, BitVec.toNat_and, hm, Nat.and_two_pow_sub_one_eq_mod]
  show _ = (BitVec.ofNat 32 _).toNat
  rw [BitVec.toNat_ofNat]
  exact (Nat.mod_eq_of_lt (Nat.lt_of_le_of_lt (Nat.mod_le _ _) x.toBitVec.isLt)).symm
theorem pk_andN {n : Nat} (h : n < 2 ^ 32) {m : Int32} (k : Nat) (hm : m.toBitVec.toNat = 2 ^ k - 1) : nI n &&& m = nI (n % 2 ^ k) := by
  rw [pk_and _ k hm, pk_tn h]
theorem pk_andE (x : Int32) {m : Int32} (k : Nat) (hm : m.toBitVec.toNat = 2 ^ k - 1) : ∃ j : Nat, j < 2 ^ k ∧ x &&& m = nI j := ⟨_, Nat.mod_lt _ (Nat.two_pow_pos k), pk_and x k hm⟩
end
section
/-! the history: one list of updates (kind, client, request, source, target, amount) -/
abbrev cr_E : Type := Nat × Nat × Int32 × Nat × Nat × Int32
def cr_kd (L : Nat → cr_E) (i : Nat) : Nat := (L i).1
def cr_wh (L : Nat → cr_E) (i : Nat) : Nat := (L i).2.1
def cr_nu (L : Nat → cr_E) (i : Nat) : Int32 := (L i).2.2.1
def cr_so (L : Nat → cr_E) (i : Nat) : Nat := (L i).2.2.2.1
def cr_ta (L : Nat → cr_E) (i : Nat) : Nat := (L i).2.2.2.2.1
def cr_am (L : Nat → cr_E) (i : Nat) : Int32 := (L i).2.2.2.2.2
def cr_nF (f : Nat → Nat) : Nat → Int32 := fun i => nI (f i)
def cr_uN (f : Nat → Nat) (k x : Nat) : Nat → Nat := fun j => if j = k then x else f j
def cr_uE (L : Nat → cr_E) (k : Nat) (e : cr_E) : Nat → cr_E := fun j => if j = k then e else L j
def cr_jI (j : Nat) : Int32 := if j < 6 then nI j else -1
def cr_mx (a b : Nat) : Nat := if a ≤ b then b else a
def cr_ot (L : Nat → cr_E) (i : Nat) : Int32 := if cr_kd L i = 3 then nI (cr_so L i) else -1
def cr_step (L : Nat → cr_E) (i : Nat) (w : Nat → Int32) : Nat → Int32 :=
  if cr_kd L i = 1 then upd w (cr_ta L i) (cr_am L i)
  else if cr_kd L i = 2 then upd w (cr_ta L i) (w (cr_ta L i) + cr_am L i)
  else upd (upd w (cr_ta L i) (w (cr_ta L i) + w (cr_so L i))) (cr_so L i) 0
/-- the values after the first n updates -/
def cr_W (L : Nat → cr_E) : Nat → Nat → Int32
  | 0 => fun _ => 0
  | n + 1 => cr_step L n (cr_W L n)
def cr_vl (L : Nat → cr_E) (n : Nat) : Int32 := cr_W L (n + 1) (cr_ta L n)
/-- a client's last request among the first n, and its result -/
def cr_Q (L : Nat → cr_E) : Nat → Nat → Int32
  | 0 => fun _ => 0
  | n + 1 => fun c => if cr_wh L n = c then cr_nu L n else cr_Q L n c
def cr_A (L : Nat → cr_E) : Nat → Nat → Int32
  | 0 => fun _ => 0
  | n + 1 => fun c => if cr_wh L n = c then cr_vl L n else cr_A L n c
/-- the position of the client's last update among the first n -/
def cr_lo (L : Nat → cr_E) (c : Nat) : Nat → Int32
  | 0 => -1
  | n + 1 => if cr_wh L n = c then nI n else cr_lo L c n
/-- how many of the n updates from b on touch k -/
def cr_tc (L : Nat → cr_E) (k b : Nat) : Nat → Nat
  | 0 => 0
  | n + 1 => cr_tc L k b n + (if cr_so L (b + n) = k ∨ cr_ta L (b + n) = k then 1 else 0)
def cr_wf (L : Nat → cr_E) (ky i : Nat) : Prop :=
  (cr_kd L i = 1 ∨ cr_kd L i = 2 ∨ cr_kd L i = 3) ∧ cr_wh L i < 4 ∧ (1 : Int32) ≤ cr_nu L i ∧ cr_ta L i < ky ∧ cr_so L i < ky ∧
  (cr_kd L i = 3 → cr_so L i ≠ cr_ta L i) ∧ (cr_kd L i ≠ 3 → cr_so L i = cr_ta L i)
/-! the two states -/
abbrev cr_xs (nd ky wd len jn cp : Nat) (lr : Int32) (md : Nat → Nat) (pl : Nat → Int32) (ch sr : Nat → Nat) (va rq rs fi sz uc ur uk uv uo : Nat → Int32) (st : Nat → Nat) (aq ar : Nat → Int32) : SX :=
  (nI nd, nI ky, nI wd, 6, nI len, cr_jI jn, nI cp, lr, cr_nF md, pl, cr_nF ch, cr_nF sr, va, rq, rs, fi, sz, uc, ur, uk, uv, uo, cr_nF st, aq, ar)
abbrev cr_ys (nd ky wd len ack stm fd : Nat) (lr : Int32) (L : Nat → cr_E) (md ch hs sr : Nat → Nat) (wk : Nat → Int32) : SY :=
  (nI nd, nI ky, nI wd, nI len, nI ack, nI stm, nI fd, lr, cr_nF (cr_kd L), cr_nF (cr_wh L), cr_nu L, cr_nF (cr_so L), cr_nF (cr_ta L), cr_am L, cr_nF md, cr_nF ch, cr_nF hs, cr_nF sr, wk)
/-! the data of the component: rings and stable entries against the list -/
def cr_at (L : Nat → cr_E) (uc ur uk uv uo : Nat → Int32) (s n : Nat) : Prop :=
  uc s = nI (cr_wh L n) ∧ ur s = cr_nu L n ∧ uk s = nI (cr_ta L n) ∧ uv s = cr_vl L n ∧ uo s = cr_ot L n
def cr_G (L : Nat → cr_E) (fi sz uc ur uk uv uo : Nat → Int32) (r b c : Nat) : Prop :=
  c ≤ 8 ∧ sz r = nI c ∧ ∃ f, f < 8 ∧ fi r = nI f ∧ ∀ i, i < c → cr_at L uc ur uk uv uo (r * 8 + (f + i) % 8) (b + i)
def cr_S (L : Nat → cr_E) (ky : Nat) (va rq rs : Nat → Int32) (i s : Nat) : Prop :=
  (∀ k, k < ky → va (i * 8 + k) = cr_W L s k) ∧ (∀ c, c < 4 → rq (i * 4 + c) = cr_Q L s c ∧ rs (i * 4 + c) = cr_A L s c)
def cr_J (L : Nat → cr_E) (ky jn cp fd : Nat) (st : Nat → Nat) (va rq rs : Nat → Int32) : Prop :=
  (∀ k, k < cp → k < ky → va (jn * 8 + k) = cr_W L (cr_mx (st k) fd) k) ∧
  (∀ c, c < 4 → ky + c < cp → rq (jn * 4 + c) = cr_Q L (cr_mx (st (ky + c)) fd) c ∧ rs (jn * 4 + c) = cr_A L (cr_mx (st (ky + c)) fd) c)
def cr_D (L : Nat → cr_E) (ky jn cp fd fc : Nat) (sr hs st : Nat → Nat) (va rq rs fi sz uc ur uk uv uo : Nat → Int32) : Prop :=
  (∀ i, i < 6 → i ≠ jn → sr i ≤ hs i ∧ cr_S L ky va rq rs i (sr i) ∧ (cr_G L fi sz uc ur uk uv uo) i (sr i) (hs i - sr i)) ∧
  cr_J L ky jn cp fd st va rq rs ∧ (cr_G L fi sz uc ur uk uv uo) 6 fd fc
def cr_AK (L : Nat → cr_E) (ack : Nat) (aq ar : Nat → Int32) : Prop := ∀ c, c < 4 → aq c = cr_Q L ack c ∧ ar c = cr_A L ack c
/-! the pure invariant -/
def pi_C (nd ky wd len : Nat) : Prop := 2 ≤ nd ∧ nd ≤ 6 ∧ 2 ≤ ky ∧ ky ≤ 8 ∧ 1 ≤ wd ∧ wd ≤ 8 ∧ 1 ≤ len ∧ len ≤ nd
def pi_K (nd len jn : Nat) (md ch : Nat → Nat) (pl : Nat → Int32) : Prop :=
  jn ≤ 6 ∧ (jn < 6 → md jn = 1) ∧
  (∀ p, p < len → ch p < nd ∧ (md (ch p) = 10 ∨ md (ch p) = 20) ∧ pl (ch p) = nI p) ∧
  (∀ i, i < 6 → (md i = 0 ∧ pl i = -1) ∨ (md i = 1 ∧ pl i = -1 ∧ i = jn ∧ i < nd) ∨ (∃ p, p < len ∧ ch p = i))
def pi_H (wd len ack N : Nat) (md ch sr hs : Nat → Nat) : Prop :=
  N ≤ 200 ∧ (∀ i, i < 6 → sr i ≤ hs i ∧ hs i ≤ N ∧ hs i ≤ sr i + wd ∧ (md i ≠ 10 → hs i = 0)) ∧
  (∀ p q, p < q → q < len → md (ch p) = 10 → md (ch q) = 10 → hs (ch q) ≤ hs (ch p) ∧ sr (ch p) ≤ sr (ch q)) ∧
  (md (ch (len - 1)) = 10 → sr (ch (len - 1)) = hs (ch (len - 1))) ∧
  (∀ i, i < 6 → md i = 10 → ack ≤ sr i) ∧ (md (ch 0) = 10 → ack = sr (ch 0)) ∧ (∃ i, i < 6 ∧ md i = 10)
def pi_L (ky N : Nat) (L : Nat → cr_E) : Prop :=
  ∀ i, i < N → cr_wf L ky i ∧ ∀ j, j < i → cr_wh L j = cr_wh L i → cr_nu L j < cr_nu L i
def pi_T (ky wd len jn cp stm fd fc : Nat) (md ch hs st : Nat → Nat) : Prop :=
  fd ≤ 200 ∧ cp ≤ ky + 4 ∧ stm ≤ ky + 4 ∧ (jn < 6 → stm = cp) ∧
  (jn < 6 → md (ch (len - 1)) = 10 → fd + fc = hs (ch (len - 1)) ∧ fc ≤ wd ∧ ∀ i, i < cp → st i ≤ hs (ch (len - 1))) ∧
  ((jn = 6 ∨ md (ch (len - 1)) ≠ 10) → cp = 0 ∧ fc = 0)
def pi_P (nd ky wd len jn cp stm fd fc ack N : Nat) (md ch sr hs st : Nat → Nat) (L : Nat → cr_E) (pl : Nat → Int32) : Prop :=
  (pi_C nd ky wd len) ∧ (pi_K nd len jn md ch pl) ∧ (pi_H wd len ack N md ch sr hs) ∧ (pi_L ky N L) ∧ (pi_T ky wd len jn cp stm fd fc md ch hs st)
end
section
/-! small facts on updates of functions -/
theorem cr_uNs {f : Nat → Nat} {k x : Nat} : cr_uN f k x k = x := if_pos rfl
theorem cr_uNn {f : Nat → Nat} {k j x : Nat} (h : j ≠ k) : cr_uN f k x j = f j := if_neg h
theorem cr_upd (f : Nat → Nat) (k x : Nat) : upd (cr_nF f) k (nI x) = cr_nF (cr_uN f k x) := by
  funext j
  unfold upd cr_nF cr_uN
  split <;> rfl
theorem cr_uEs {L : Nat → cr_E} {k : Nat} {e : cr_E} : cr_uE L k e k = e := if_pos rfl
theorem cr_uEn {L : Nat → cr_E} {k j : Nat} {e : cr_E} (h : j ≠ k) : cr_uE L k e j = L j := if_neg h
theorem cr_up1 (L : Nat → cr_E) (k a b : Nat) (c : Int32) (d e : Nat) (g : Int32) : upd (cr_nF (cr_kd L)) k (nI a) = cr_nF (cr_kd (cr_uE L k (a, b, c, d, e, g))) := by
  funext j
  unfold upd cr_nF cr_kd cr_uE
  split <;> rfl
theorem cr_up2 (L : Nat → cr_E) (k a b : Nat) (c : Int32) (d e : Nat) (g : Int32) : upd (cr_nF (cr_wh L)) k (nI b) = cr_nF (cr_wh (cr_uE L k (a, b, c, d, e, g))) := by
  funext j
  unfold upd cr_nF cr_wh cr_uE
  split <;> rfl
theorem cr_up3 (L : Nat → cr_E) (k a b : Nat) (c : Int32) (d e : Nat) (g : Int32) : upd (cr_nu L) k c = cr_nu (cr_uE L k (a, b, c, d, e, g)) := by
  funext j
  unfold upd cr_nu cr_uE
  split <;> rfl
theorem cr_up4 (L : Nat → cr_E) (k a b : Nat) (c : Int32) (d e : Nat) (g : Int32) : upd (cr_nF (cr_so L)) k (nI d) = cr_nF (cr_so (cr_uE L k (a, b, c, d, e, g))) := by
  funext j
  unfold upd cr_nF cr_so cr_uE
  split <;> rfl
theorem cr_up5 (L : Nat → cr_E) (k a b : Nat) (c : Int32) (d e : Nat) (g : Int32) : upd (cr_nF (cr_ta L)) k (nI e) = cr_nF (cr_ta (cr_uE L k (a, b, c, d, e, g))) := by
  funext j
  unfold upd cr_nF cr_ta cr_uE
  split <;> rfl
theorem cr_up6 (L : Nat → cr_E) (k a b : Nat) (c : Int32) (d e : Nat) (g : Int32) : upd (cr_am L) k g = cr_am (cr_uE L k (a, b, c, d, e, g)) := by
  funext j
  unfold upd cr_am cr_uE
  split <;> rfl
/-! the history functions look only at what is below -/
theorem cr_agree {L M : Nat → cr_E} {n : Nat} (h : ∀ i, i < n → L i = M i) : ∀ m, m ≤ n → cr_W L m = cr_W M m ∧ cr_Q L m = cr_Q M m ∧ cr_A L m = cr_A M m := by
  intro m
  induction m with
  | zero => intro _; exact ⟨rfl, rfl, rfl⟩
  | succ m ih =>
    intro hm
    obtain ⟨h1, h2, h3⟩ := ih (by omega)
    have e : L m = M m := h m (by omega)
    have w : cr_W L (m + 1) = cr_W M (m + 1) := by
      show cr_step L m (cr_W L m) = cr_step M m (cr_W M m)
      rw [h1]
      unfold cr_step cr_kd cr_ta cr_am cr_so
      rw [e]
    have v : cr_vl L m = cr_vl M m := by
      unfold cr_vl
      rw [w]
      unfold cr_ta
      rw [e]
    refine ⟨w, ?_, ?_⟩
    · funext c
      show (if cr_wh L m = c then cr_nu L m else cr_Q L m c) = (if cr_wh M m = c then cr_nu M m else cr_Q M m c)
      rw [h2]
      unfold cr_wh cr_nu
      rw [e]
    · funext c
      show (if cr_wh L m = c then cr_vl L m else cr_A L m c) = (if cr_wh M m = c then cr_vl M m else cr_A M m c)
      rw [h3, v]
      unfold cr_wh
      rw [e]
theorem cr_agree_at {L M : Nat → cr_E} {n : Nat} (h : ∀ i, i < n → L i = M i) {m : Nat} (hm : m < n) :
    cr_kd L m = cr_kd M m ∧ cr_wh L m = cr_wh M m ∧ cr_nu L m = cr_nu M m ∧ cr_so L m = cr_so M m ∧ cr_ta L m = cr_ta M m ∧ cr_vl L m = cr_vl M m ∧ cr_ot L m = cr_ot M m := by
  have e := h m hm
  have w := (cr_agree h (m + 1) hm).1
  unfold cr_kd cr_wh cr_nu cr_so cr_vl cr_ot cr_kd cr_so cr_ta
  rw [e, w]
  exact ⟨rfl, rfl, rfl, rfl, rfl, rfl, rfl⟩
/-! one step of the values -/
theorem cr_W_ta (L : Nat → cr_E) (i : Nat) : cr_W L (i + 1) (cr_ta L i) = cr_vl L i := rfl
theorem cr_W_no {L : Nat → cr_E} {i k : Nat} (h1 : cr_so L i ≠ k) (h2 : cr_ta L i ≠ k) : cr_W L (i + 1) k = cr_W L i k := by
  show cr_step L i (cr_W L i) k = _
  unfold cr_step
  split
  · exact pk_un (Ne.symm h2)
  · split
    · exact pk_un (Ne.symm h2)
    · rw [pk_un (Ne.symm h1), pk_un (Ne.symm h2)]
theorem cr_W_so {L : Nat → cr_E} {ky i k : Nat} (w : cr_wf L ky i) (h1 : cr_so L i = k) (h2 : cr_ta L i ≠ k) : cr_W L (i + 1) k = 0 := by
  obtain ⟨a, b, c, d, e, f, g⟩ := w
  have h3 : cr_kd L i = 3 := by
    rcases Decidable.em (cr_kd L i = 3) with h | h
    · exact h
    · exact absurd ((g h).symm.trans h1) h2
  show cr_step L i (cr_W L i) k = 0
  unfold cr_step
  rw [if_neg (by omega), if_neg (by omega), h1]
  exact pk_us
theorem cr_ot_ge {L : Nat → cr_E} {ky i : Nat} (w : cr_wf L ky i) (hky : ky ≤ 8) : (cr_kd L i = 3 ∧ cr_ot L i = nI (cr_so L i) ∧ ¬ cr_ot L i < 0) ∨ (cr_kd L i ≠ 3 ∧ cr_ot L i = -1 ∧ cr_ot L i < 0 ∧ cr_so L i = cr_ta L i) := by
  obtain ⟨a, b, c, d, e, f, g⟩ := w
  rcases Decidable.em (cr_kd L i = 3) with h | h
  · left
    have : cr_ot L i = nI (cr_so L i) := if_pos h
    refine ⟨h, this, ?_⟩
    rw [this]
    exact nI_pos (by omega)
  · right
    have : cr_ot L i = -1 := if_neg h
    refine ⟨h, this, ?_, g h⟩
    rw [this]
    decide
theorem cr_m1 {a : Nat} (h : a < 2 ^ 31) : ¬ nI a = -1 := by
  intro e
  have := nI_pos (n := a) h
  rw [e] at this
  exact this (by decide)
/-- an update touches k in the ring as it does in the list -/
theorem cr_touch {L : Nat → cr_E} {ky i k : Nat} (w : cr_wf L ky i) (hky : ky ≤ 8) (hk : k < 8) : (nI (cr_ta L i) = nI k ∨ cr_ot L i = nI k) ↔ (cr_so L i = k ∨ cr_ta L i = k) := by
  have w' := w
  obtain ⟨a, b, c, d, e, f, g⟩ := w'
  rw [nI_eq (by omega) (by omega)]
  rcases cr_ot_ge w hky with ⟨h1, h2, h3⟩ | ⟨h1, h2, h3, h4⟩
  · rw [h2, nI_eq (by omega) (by omega)]
    omega
  · rw [h2, h4]
    have : ¬ (-1 : Int32) = nI k := fun z => cr_m1 (a := k) (by omega) z.symm
    exact ⟨fun x => x.elim Or.inr (fun y => absurd y this), fun x => Or.inl (x.elim id id)⟩
/-! the last update of a client -/
theorem cr_lo_c (L : Nat → cr_E) (c : Nat) : ∀ n, (cr_lo L c n = -1 ∧ cr_Q L n c = 0 ∧ cr_A L n c = 0 ∧ ∀ i, i < n → cr_wh L i ≠ c) ∨
    (∃ i, i < n ∧ cr_lo L c n = nI i ∧ cr_wh L i = c ∧ cr_Q L n c = cr_nu L i ∧ cr_A L n c = cr_vl L i ∧ ∀ j, i < j → j < n → cr_wh L j ≠ c) := by
  intro n
  induction n with
  | zero => exact Or.inl ⟨rfl, rfl, rfl, fun i hi => absurd hi (Nat.not_lt_zero i)⟩
  | succ n ih =>
    by_cases h : cr_wh L n = c
    · right
      exact ⟨n, Nat.lt_succ_self n, if_pos h, h, if_pos h, if_pos h, fun j h1 h2 => by omega⟩
    · have e1 : cr_lo L c (n + 1) = cr_lo L c n := if_neg h
      have e2 : cr_Q L (n + 1) c = cr_Q L n c := if_neg h
      have e3 : cr_A L (n + 1) c = cr_A L n c := if_neg h
      rw [e1, e2, e3]
      rcases ih with ⟨a, b, d, e⟩ | ⟨i, a, b, d, e, f, g⟩
      · left
        refine ⟨a, b, d, fun i hi => ?_⟩
        by_cases z : i = n
        · rw [z]; exact h
        · exact e i (by omega)
      · right
        refine ⟨i, by omega, b, d, e, f, fun j h1 h2 => ?_⟩
        by_cases z : j = n
        · rw [z]; exact h
        · exact g j h1 (by omega)
/-! touching -/
theorem cr_tc_le (L : Nat → cr_E) (k b : Nat) : ∀ n, cr_tc L k b n ≤ n := by
  intro n
  induction n with
  | zero => exact Nat.le_refl 0
  | succ n ih =>
    show cr_tc L k b n + _ ≤ n + 1
    split <;> omega
theorem cr_tc_0 {L : Nat → cr_E} {k b : Nat} : ∀ n, cr_tc L k b n = 0 ↔ ∀ i, i < n → ¬ (cr_so L (b + i) = k ∨ cr_ta L (b + i) = k) := by
  intro n
  induction n with
  | zero => exact ⟨fun _ i hi => absurd hi (Nat.not_lt_zero i), fun _ => rfl⟩
  | succ n ih =>
    by_cases h : cr_so L (b + n) = k ∨ cr_ta L (b + n) = k
    · have e : cr_tc L k b (n + 1) = cr_tc L k b n + 1 := by
        show cr_tc L k b n + _ = _
        rw [if_pos h]
      rw [e]
      exact ⟨fun z => by omega, fun z => absurd h (z n (Nat.lt_succ_self n))⟩
    · have e : cr_tc L k b (n + 1) = cr_tc L k b n := by
        show cr_tc L k b n + _ = _
        rw [if_neg h]
        rfl
      rw [e, ih]
      constructor
      · intro z i hi
        by_cases y : i = n
        · rw [y]; exact h
        · exact z i (by omega)
      · intro z i hi
        exact z i (by omega)
/-- untouched keys keep their values -/
theorem cr_W_un {L : Nat → cr_E} {k b : Nat} : ∀ n, (∀ i, i < n → ¬ (cr_so L (b + i) = k ∨ cr_ta L (b + i) = k)) → cr_W L (b + n) k = cr_W L b k := by
  intro n
  induction n with
  | zero => intro _; rfl
  | succ n ih =>
    intro h
    have h1 := h n (Nat.lt_succ_self n)
    rw [← ih (fun i hi => h i (by omega))]
    exact cr_W_no (fun z => h1 (Or.inl z)) (fun z => h1 (Or.inr z))
/-- the value after the last touch -/
theorem cr_W_last {L : Nat → cr_E} {ky k b n i : Nat} (w : cr_wf L ky (b + i)) (hi : i < n) (ht : cr_so L (b + i) = k ∨ cr_ta L (b + i) = k) (hn : ∀ j, i < j → j < n → ¬ (cr_so L (b + j) = k ∨ cr_ta L (b + j) = k)) :
    cr_W L (b + n) k = if cr_ta L (b + i) = k then cr_vl L (b + i) else 0 := by
  have e : cr_W L (b + n) k = cr_W L (b + i + 1) k := by
    have := cr_W_un (L := L) (k := k) (b := b + i + 1) (n - (i + 1)) (fun j hj => by
      have := hn (i + 1 + j) (by omega) (by omega)
      rw [show b + i + 1 + j = b + (i + 1 + j) by omega]
      exact this)
    rw [show b + n = b + i + 1 + (n - (i + 1)) by omega]
    exact this
  rw [e]
  split
  · rename_i h
    rw [← h]
    rfl
  · rename_i h
    rcases ht with h1 | h1
    · exact cr_W_so w h1 h
    · exact absurd h1 h
end
section
section
variable {L : Nat → cr_E} {fi sz uc ur uk uv uo : Nat → Int32}
theorem gr_f {r b c f : Nat} (h : (cr_G L fi sz uc ur uk uv uo) r b c) (hf : f < 8) (e : fi r = nI f) : ∀ i, i < c → cr_at L uc ur uk uv uo (r * 8 + (f + i) % 8) (b + i) := by
  obtain ⟨h1, h2, g, h3, h4, h5⟩ := h
  have : g = f := (nI_eq (by omega) (by omega)).mp (h4.symm.trans e)
  subst this
  exact h5
theorem gr_app {r b c f s : Nat} (h : (cr_G L fi sz uc ur uk uv uo) r b c) (hc : c < 8) (hf : f < 8) (e : fi r = nI f) (es : s = r * 8 + (f + c) % 8) :
    (cr_G L fi (upd sz r (nI (c + 1))) (upd uc s (nI (cr_wh L (b + c)))) (upd ur s (cr_nu L (b + c))) (upd uk s (nI (cr_ta L (b + c)))) (upd uv s (cr_vl L (b + c))) (upd uo s (cr_ot L (b + c)))) r b (c + 1) := by
  have h5 := gr_f h hf e
  refine ⟨by omega, pk_us, f, hf, e, ?_⟩
  intro i hi
  by_cases z : i = c
  · subst z
    rw [← es]
    exact ⟨pk_us, pk_us, pk_us, pk_us, pk_us⟩
  · have ne : r * 8 + (f + i) % 8 ≠ s := by omega
    obtain ⟨a1, a2, a3, a4, a5⟩ := h5 i (by omega)
    exact ⟨(pk_un ne).trans a1, (pk_un ne).trans a2, (pk_un ne).trans a3, (pk_un ne).trans a4, (pk_un ne).trans a5⟩
theorem gr_appo {r r' b c t s : Nat} {x0 x1 x2 x3 x4 x5 : Int32} (h : (cr_G L fi sz uc ur uk uv uo) r' b c) (hr : r' ≠ r) (es : s = r * 8 + t) (ht : t < 8) :
    (cr_G L fi (upd sz r x0) (upd uc s x1) (upd ur s x2) (upd uk s x3) (upd uv s x4) (upd uo s x5)) r' b c := by
  obtain ⟨h1, h2, g, h3, h4, h5⟩ := h
  refine ⟨h1, (pk_un hr).trans h2, g, h3, h4, ?_⟩
  intro i hi
  have ne : r' * 8 + (g + i) % 8 ≠ s := by omega
  obtain ⟨a1, a2, a3, a4, a5⟩ := h5 i hi
  exact ⟨(pk_un ne).trans a1, (pk_un ne).trans a2, (pk_un ne).trans a3, (pk_un ne).trans a4, (pk_un ne).trans a5⟩
theorem gr_drop {r b c f : Nat} (h : (cr_G L fi sz uc ur uk uv uo) r b (c + 1)) (hf : f < 8) (e : fi r = nI f) : (cr_G L (upd fi r (nI ((f + 1) % 8))) (upd sz r (nI c)) uc ur uk uv uo) r (b + 1) c := by
  have h5 := gr_f h hf e
  obtain ⟨h1, h2, g, h3, h4, _⟩ := h
  refine ⟨by omega, pk_us, (f + 1) % 8, by omega, pk_us, ?_⟩
  intro i hi
  have := h5 (i + 1) (by omega)
  rw [show r * 8 + ((f + 1) % 8 + i) % 8 = r * 8 + (f + (i + 1)) % 8 by omega, show b + 1 + i = b + (i + 1) by omega]
  exact this
theorem gr_dropo {r r' b c : Nat} {x y : Int32} (h : (cr_G L fi sz uc ur uk uv uo) r' b c) (hr : r' ≠ r) : (cr_G L (upd fi r x) (upd sz r y) uc ur uk uv uo) r' b c := by
  obtain ⟨h1, h2, g, h3, h4, h5⟩ := h
  exact ⟨h1, (pk_un hr).trans h2, g, h3, (pk_un hr).trans h4, h5⟩
theorem gr_clear {r b : Nat} : (cr_G L (upd fi r 0) (upd sz r 0) uc ur uk uv uo) r b 0 :=
  ⟨by omega, pk_us, 0, by omega, pk_us, fun i hi => absurd hi (Nat.not_lt_zero i)⟩
theorem gr_agree {M : Nat → cr_E} {n : Nat} (ag : ∀ i, i < n → L i = M i) {r b c : Nat} (h : (cr_G L fi sz uc ur uk uv uo) r b c) (hb : c = 0 ∨ b + c ≤ n) : (cr_G M fi sz uc ur uk uv uo) r b c := by
  obtain ⟨h1, h2, g, h3, h4, h5⟩ := h
  refine ⟨h1, h2, g, h3, h4, ?_⟩
  intro i hi
  obtain ⟨a1, a2, a3, a4, a5⟩ := h5 i hi
  obtain ⟨b1, b2, b3, b4, b5, b6, b7⟩ := cr_agree_at ag (m := b + i) (by omega)
  exact ⟨a1.trans (congrArg nI b2), a2.trans b3, a3.trans (congrArg nI b5), a4.trans b6, a5.trans b7⟩
end
section
variable {L : Nat → cr_E} {ky : Nat} {va rq rs va' rq' rs' : Nat → Int32}
theorem cs_agree {M : Nat → cr_E} {n : Nat} (ag : ∀ i, i < n → L i = M i) {i s : Nat} (h : cr_S L ky va rq rs i s) (hn : s ≤ n) : cr_S M ky va rq rs i s := by
  obtain ⟨b1, b2, b3⟩ := cr_agree ag s hn
  unfold cr_S
  rw [← b1, ← b2, ← b3]
  exact h
theorem cs_other {i s : Nat} (h : cr_S L ky va rq rs i s) (h8 : ∀ k, k < ky → va' (i * 8 + k) = va (i * 8 + k)) (h4 : ∀ c, c < 4 → rq' (i * 4 + c) = rq (i * 4 + c) ∧ rs' (i * 4 + c) = rs (i * 4 + c)) : cr_S L ky va' rq' rs' i s :=
  ⟨fun k hk => (h8 k hk).trans (h.1 k hk), fun c hc => ⟨(h4 c hc).1.trans (h.2 c hc).1, (h4 c hc).2.trans (h.2 c hc).2⟩⟩
theorem cs_commit {i s : Nat} (h : cr_S L ky va rq rs i s) (w : cr_wf L ky s)
    (h8 : ∀ k, k < ky → va' (i * 8 + k) = if cr_ta L s = k then cr_vl L s else if cr_so L s = k then 0 else va (i * 8 + k)) :
    cr_S L ky va' (upd rq (i * 4 + cr_wh L s) (cr_nu L s)) (upd rs (i * 4 + cr_wh L s) (cr_vl L s)) i (s + 1) := by
  have w' := w
  obtain ⟨w1, w2, w3, w4, w5, w6, w7⟩ := w'
  refine ⟨fun k hk => ?_, fun c hc => ?_⟩
  · rw [h8 k hk]
    split
    · rename_i z
      rw [← z]
      rfl
    · rename_i z
      split
      · rename_i y
        exact (cr_W_so w y z).symm
      · rename_i y
        rw [cr_W_no y z]
        exact h.1 k hk
  · by_cases z : cr_wh L s = c
    · subst z
      have e1 : cr_Q L (s + 1) (cr_wh L s) = cr_nu L s := if_pos rfl
      have e2 : cr_A L (s + 1) (cr_wh L s) = cr_vl L s := if_pos rfl
      rw [e1, e2]
      exact ⟨pk_us, pk_us⟩
    · have e1 : cr_Q L (s + 1) c = cr_Q L s c := if_neg z
      have e2 : cr_A L (s + 1) c = cr_A L s c := if_neg z
      rw [e1, e2, pk_un (by omega), pk_un (by omega)]
      exact h.2 c hc
theorem cs_zero {i : Nat} (h8 : ∀ k, k < 8 → va' (i * 8 + k) = 0) (h4 : ∀ c, c < 4 → rq' (i * 4 + c) = 0 ∧ rs' (i * 4 + c) = 0) (hky : ky ≤ 8) : cr_S L ky va' rq' rs' i 0 :=
  ⟨fun k hk => h8 k (by omega), fun c hc => h4 c hc⟩
end
section
variable {nd ky wd len jn cp stm fd fc ack N : Nat} {md ch sr hs st : Nat → Nat} {lr : Int32} {L : Nat → cr_E} {pl va rq rs fi sz uc ur uk uv uo aq ar wk : Nat → Int32}
variable {va' rq' rs' fi' sz' : Nat → Int32}
theorem cd_ring {r : Nat} (h : (cr_D L ky jn cp fd fc sr hs st va rq rs fi sz uc ur uk uv uo)) (hr : r < 6) (hj : r ≠ jn) : (cr_G L fi sz uc ur uk uv uo) r (sr r) (hs r - sr r) := (h.1 r hr hj).2.2
theorem cd_feed (h : (cr_D L ky jn cp fd fc sr hs st va rq rs fi sz uc ur uk uv uo)) : (cr_G L fi sz uc ur uk uv uo) 6 fd fc := h.2.2
theorem cj_other {jn cp fd : Nat} (h : cr_J L ky jn cp fd st va rq rs) (h8 : ∀ k, k < ky → va' (jn * 8 + k) = va (jn * 8 + k)) (h4 : ∀ c, c < 4 → rq' (jn * 4 + c) = rq (jn * 4 + c) ∧ rs' (jn * 4 + c) = rs (jn * 4 + c)) : cr_J L ky jn cp fd st va' rq' rs' :=
  ⟨fun k hk hk' => (h8 k hk').trans (h.1 k hk hk'), fun c hc hc' => ⟨(h4 c hc).1.trans (h.2 c hc hc').1, (h4 c hc).2.trans (h.2 c hc hc').2⟩⟩
theorem cj_zero {jn fd : Nat} : cr_J L ky jn 0 fd st va rq rs :=
  ⟨fun k hk => absurd hk (Nat.not_lt_zero k), fun c _ hc => absurd hc (Nat.not_lt_zero _)⟩
/-- the list may change where nobody looks -/
theorem cd_agree {M : Nat → cr_E} {n : Nat} (ag : ∀ i, i < n → L i = M i) (h : (cr_D L ky jn cp fd fc sr hs st va rq rs fi sz uc ur uk uv uo)) (h1 : ∀ i, i < 6 → hs i ≤ n) (h2 : fc = 0 ∨ fd + fc ≤ n) (h3 : ∀ i, i < cp → cr_mx (st i) fd ≤ n) : (cr_D M ky jn cp fd fc sr hs st va rq rs fi sz uc ur uk uv uo) := by
  obtain ⟨a, ⟨b1, b2⟩, c⟩ := h
  refine ⟨fun i hi hj => ?_, ⟨fun k hk hk' => ?_, fun k hk hk' => ?_⟩, gr_agree ag c h2⟩
  · obtain ⟨x, y, z⟩ := a i hi hj
    have := h1 i hi
    exact ⟨x, cs_agree ag y (by omega), gr_agree ag z (by omega)⟩
  · rw [← (cr_agree ag _ (h3 k hk)).1]
    exact b1 k hk hk'
  · rw [← (cr_agree ag _ (h3 _ hk')).2.1, ← (cr_agree ag _ (h3 _ hk')).2.2]
    exact b2 k hk hk'
/-- an update appended to a node's ring -/
theorem cd_app {r f s : Nat} (h : (cr_D L ky jn cp fd fc sr hs st va rq rs fi sz uc ur uk uv uo)) (hr : r < 6) (hj : r ≠ jn) (hc : hs r - sr r < 8) (hf : f < 8) (e : fi r = nI f) (es : s = r * 8 + (f + (hs r - sr r)) % 8) :
    (cr_D L ky jn cp fd fc sr (cr_uN hs r (hs r + 1)) st va rq rs fi (upd sz r (nI (hs r - sr r + 1))) (upd uc s (nI (cr_wh L (hs r)))) (upd ur s (cr_nu L (hs r))) (upd uk s (nI (cr_ta L (hs r)))) (upd uv s (cr_vl L (hs r))) (upd uo s (cr_ot L (hs r)))) := by
  obtain ⟨a, b, c⟩ := h
  obtain ⟨x, y, z⟩ := a r hr hj
  have eb : sr r + (hs r - sr r) = hs r := by omega
  have G := gr_app z hc hf e es
  rw [eb] at G
  refine ⟨fun i hi hi' => ?_, b, gr_appo c (by omega) es (by omega)⟩
  by_cases q : i = r
  · subst q
    rw [cr_uNs]
    refine ⟨by omega, y, ?_⟩
    rw [show hs i + 1 - sr i = hs i - sr i + 1 by omega]
    exact G
  · rw [cr_uNn q]
    obtain ⟨x', y', z'⟩ := a i hi hi'
    exact ⟨x', y', gr_appo z' q es (by omega)⟩
/-- an update appended to the feed -/
theorem cd_appF {f s : Nat} (h : (cr_D L ky jn cp fd fc sr hs st va rq rs fi sz uc ur uk uv uo)) (hc : fc < 8) (hf : f < 8) (e : fi 6 = nI f) (es : s = 6 * 8 + (f + fc) % 8) :
    (cr_D L ky jn cp fd (fc + 1) sr hs st va rq rs fi (upd sz 6 (nI (fc + 1))) (upd uc s (nI (cr_wh L (fd + fc)))) (upd ur s (cr_nu L (fd + fc))) (upd uk s (nI (cr_ta L (fd + fc)))) (upd uv s (cr_vl L (fd + fc))) (upd uo s (cr_ot L (fd + fc)))) := by
  obtain ⟨a, b, c⟩ := h
  refine ⟨fun i hi hi' => ?_, b, gr_app c hc hf e es⟩
  obtain ⟨x', y', z'⟩ := a i hi hi'
  exact ⟨x', y', gr_appo z' (by omega) es (by omega)⟩
/-- the oldest update of a ring becomes stable -/
theorem cd_commit {r f : Nat} (h : (cr_D L ky jn cp fd fc sr hs st va rq rs fi sz uc ur uk uv uo)) (hr : r < 6) (hj : r ≠ jn) (hky : ky ≤ 8) (hc : sr r < hs r) (w : cr_wf L ky (sr r)) (hf : f < 8) (e : fi r = nI f)
    (h8 : ∀ k, k < 8 → va' (r * 8 + k) = if cr_ta L (sr r) = k then cr_vl L (sr r) else if cr_so L (sr r) = k then 0 else va (r * 8 + k))
    (ho : ∀ j k, j ≠ r → k < 8 → va' (j * 8 + k) = va (j * 8 + k)) :
    (cr_D L ky jn cp fd fc (cr_uN sr r (sr r + 1)) hs st va' (upd rq (r * 4 + cr_wh L (sr r)) (cr_nu L (sr r))) (upd rs (r * 4 + cr_wh L (sr r)) (cr_vl L (sr r))) (upd fi r (nI ((f + 1) % 8))) (upd sz r (nI (hs r - (sr r + 1)))) uc ur uk uv uo) := by
  obtain ⟨a, b, c⟩ := h
  have w2 : cr_wh L (sr r) < 4 := w.2.1
  have o4 : ∀ i, i ≠ r → ∀ c, c < 4 → upd rq (r * 4 + cr_wh L (sr r)) (cr_nu L (sr r)) (i * 4 + c) = rq (i * 4 + c) ∧ upd rs (r * 4 + cr_wh L (sr r)) (cr_vl L (sr r)) (i * 4 + c) = rs (i * 4 + c) := by
    intro i hi c hc
    exact ⟨pk_un (by omega), pk_un (by omega)⟩
  refine ⟨fun i hi hi' => ?_, cj_other b (fun k hk => ho jn k (Ne.symm hj) (by omega)) (o4 jn (Ne.symm hj)), gr_dropo c (by omega)⟩
  obtain ⟨x, y, z⟩ := a i hi hi'
  by_cases q : i = r
  · subst q
    rw [cr_uNs]
    refine ⟨by omega, cs_commit y w (fun k hk => h8 k (by omega)), ?_⟩
    rw [show hs i - sr i = (hs i - (sr i + 1)) + 1 by omega] at z
    exact gr_drop z hf e
  · rw [cr_uNn q]
    exact ⟨x, cs_other y (fun k hk => ho i k q (by omega)) (o4 i q), gr_dropo z q⟩
/-- a node erased -/
theorem cd_erase {r jm : Nat} (h : (cr_D L ky jn cp fd fc sr hs st va rq rs fi sz uc ur uk uv uo)) (hr : r < 6) (hky : ky ≤ 8) (hm : jm = jn ∨ jm = 6 ∧ r = jn) (h0 : jn ≠ r ∨ cp = 0)
    (h8 : ∀ k, k < 8 → va' (r * 8 + k) = 0) (ho : ∀ j k, j ≠ r → k < 8 → va' (j * 8 + k) = va (j * 8 + k))
    (h4 : ∀ c, c < 4 → rq' (r * 4 + c) = 0 ∧ rs' (r * 4 + c) = 0) (h4o : ∀ j c, j ≠ r → c < 4 → rq' (j * 4 + c) = rq (j * 4 + c) ∧ rs' (j * 4 + c) = rs (j * 4 + c)) :
    (cr_D L ky jm cp fd fc (cr_uN sr r 0) (cr_uN hs r 0) st va' rq' rs' (upd fi r 0) (upd sz r 0) uc ur uk uv uo) := by
  obtain ⟨a, b, c⟩ := h
  refine ⟨fun i hi hi' => ?_, ?_, gr_dropo c (by omega)⟩
  · by_cases q : i = r
    · subst q
      rw [cr_uNs, cr_uNs]
      exact ⟨Nat.le_refl 0, cs_zero h8 h4 hky, gr_clear⟩
    · rw [cr_uNn q, cr_uNn q]
      obtain ⟨x, y, z⟩ := a i hi (by omega)
      exact ⟨x, cs_other y (fun k hk => ho i k q (by omega)) (fun c hc => h4o i c q hc), gr_dropo z q⟩
  · by_cases q : cp = 0
    · subst q
      exact cj_zero
    · have e : jm = jn := by omega
      subst e
      exact cj_other b (fun k hk => ho _ k (by omega) (by omega)) (fun c hc => h4o _ c (by omega) hc)
theorem cd_restart (fd' : Nat) (h : (cr_D L ky jn cp fd fc sr hs st va rq rs fi sz uc ur uk uv uo)) : (cr_D L ky jn 0 fd' 0 sr hs st va rq rs (upd fi 6 0) (upd sz 6 0) uc ur uk uv uo) := by
  obtain ⟨a, b, c⟩ := h
  refine ⟨fun i hi hi' => ?_, cj_zero, gr_clear⟩
  obtain ⟨x, y, z⟩ := a i hi hi'
  exact ⟨x, y, gr_dropo z (by omega)⟩
/-- without items any node may be the joiner -/
theorem cd_join {r : Nat} (h : (cr_D L ky 6 0 fd fc sr hs st va rq rs fi sz uc ur uk uv uo)) : (cr_D L ky r 0 fd fc sr hs st va rq rs fi sz uc ur uk uv uo) :=
  ⟨fun i hi _ => h.1 i hi (by omega), cj_zero, h.2.2⟩
end
end
section
section
variable {nd ky wd len jn cp stm fd fc ack N : Nat} {md ch sr hs st : Nat → Nat} {lr : Int32} {L : Nat → cr_E} {pl va rq rs fi sz uc ur uk uv uo aq ar wk : Nat → Int32}
variable {va' rq' rs' fi' sz' : Nat → Int32}
theorem mx_l {a b : Nat} (h : a ≤ b) : cr_mx a b = b := if_pos h
theorem mx_r {a b : Nat} (h : b ≤ a) : cr_mx a b = a := by
  unfold cr_mx
  split <;> omega
/-- an item copied from the tail t -/
theorem cd_copyK {t : Nat} (h : (cr_D L ky jn cp fd fc sr hs st va rq rs fi sz uc ur uk uv uo)) (ht : t < 6) (htj : t ≠ jn) (hcp : cp < ky) (hky : ky ≤ 8) (hfd : fd ≤ sr t) :
    (cr_D L ky jn (cp + 1) fd fc sr hs (cr_uN st cp (sr t)) (upd va (jn * 8 + cp) (va (t * 8 + cp))) rq rs fi sz uc ur uk uv uo) := by
  obtain ⟨a, b, c⟩ := h
  refine ⟨fun i hi hi' => ?_, ⟨fun k hk hk' => ?_, fun k hk hk' => by omega⟩, c⟩
  · obtain ⟨x, y, z⟩ := a i hi hi'
    exact ⟨x, cs_other y (fun k hk => pk_un (by omega)) (fun _ _ => ⟨rfl, rfl⟩), z⟩
  · by_cases q : k = cp
    · subst q
      rw [cr_uNs, mx_r hfd, pk_us]
      exact (a t ht htj).2.1.1 k hk'
    · rw [cr_uNn q, pk_un (by omega)]
      exact b.1 k (by omega) hk'
theorem cd_copyC {t c : Nat} (h : (cr_D L ky jn cp fd fc sr hs st va rq rs fi sz uc ur uk uv uo)) (ht : t < 6) (htj : t ≠ jn) (hc : cp = ky + c) (hc4 : c < 4) (hky : ky ≤ 8) (hfd : fd ≤ sr t) :
    (cr_D L ky jn (cp + 1) fd fc sr hs (cr_uN st cp (sr t)) va (upd rq (jn * 4 + c) (rq (t * 4 + c))) (upd rs (jn * 4 + c) (rs (t * 4 + c))) fi sz uc ur uk uv uo) := by
  obtain ⟨a, b, d⟩ := h
  refine ⟨fun i hi hi' => ?_, ⟨fun k hk hk' => ?_, fun k hk hk' => ?_⟩, d⟩
  · obtain ⟨x, y, z⟩ := a i hi hi'
    exact ⟨x, cs_other y (fun _ _ => rfl) (fun k hk => ⟨pk_un (by omega), pk_un (by omega)⟩), z⟩
  · rw [cr_uNn (by omega)]
    exact b.1 k (by omega) hk'
  · by_cases q : k = c
    · subst q
      rw [← hc, cr_uNs, mx_r hfd, pk_us, pk_us]
      exact (a t ht htj).2.1.2 k hk
    · rw [cr_uNn (by omega), pk_un (by omega), pk_un (by omega)]
      exact b.2 k hk (by omega)
/-- the joiner takes its oldest queued update -/
theorem cd_absorb {f : Nat} (h : (cr_D L ky jn cp fd fc sr hs st va rq rs fi sz uc ur uk uv uo)) (hky : ky ≤ 8) (hc : 0 < fc) (w : cr_wf L ky fd) (hf : f < 8) (e : fi 6 = nI f)
    (h8 : ∀ k, k < ky → va' (jn * 8 + k) = if k < cp ∧ st k ≤ fd ∧ cr_ta L fd = k then cr_vl L fd else if k < cp ∧ st k ≤ fd ∧ cr_so L fd = k then 0 else va (jn * 8 + k))
    (ho : ∀ j k, j ≠ jn → k < 8 → va' (j * 8 + k) = va (j * 8 + k))
    (h4 : ∀ c, c < 4 → rq' (jn * 4 + c) = (if ky + c < cp ∧ st (ky + c) ≤ fd ∧ cr_wh L fd = c then cr_nu L fd else rq (jn * 4 + c)) ∧ rs' (jn * 4 + c) = (if ky + c < cp ∧ st (ky + c) ≤ fd ∧ cr_wh L fd = c then cr_vl L fd else rs (jn * 4 + c)))
    (h4o : ∀ j c, j ≠ jn → c < 4 → rq' (j * 4 + c) = rq (j * 4 + c) ∧ rs' (j * 4 + c) = rs (j * 4 + c)) :
    (cr_D L ky jn cp (fd + 1) (fc - 1) sr hs st va' rq' rs' (upd fi 6 (nI ((f + 1) % 8))) (upd sz 6 (nI (fc - 1))) uc ur uk uv uo) := by
  obtain ⟨a, b, d⟩ := h
  obtain ⟨m, rfl⟩ : ∃ m, fc = m + 1 := ⟨fc - 1, by omega⟩
  refine ⟨fun i hi hi' => ?_, ⟨fun k hk hk' => ?_, fun k hk hk' => ?_⟩, gr_drop d hf e⟩
  · obtain ⟨x, y, z⟩ := a i hi hi'
    exact ⟨x, cs_other y (fun k hk => ho i k hi' (by omega)) (fun c hc => h4o i c hi' hc), gr_dropo z (by omega)⟩
  · rw [h8 k hk']
    have ob := b.1 k hk hk'
    by_cases q : st k ≤ fd
    · rw [mx_l q] at ob
      rw [mx_l (by omega)]
      by_cases q1 : cr_ta L fd = k
      · rw [if_pos ⟨hk, q, q1⟩, ← q1]
        rfl
      · rw [if_neg (fun z => q1 z.2.2)]
        by_cases q2 : cr_so L fd = k
        · rw [if_pos ⟨hk, q, q2⟩]
          exact (cr_W_so w q2 q1).symm
        · rw [if_neg (fun z => q2 z.2.2), ob]
          exact (cr_W_no q2 q1).symm
    · rw [if_neg (fun z => q z.2.1), if_neg (fun z => q z.2.1), mx_r (by omega)]
      rw [mx_r (by omega)] at ob
      exact ob
  · rw [(h4 k hk).1, (h4 k hk).2]
    have ob := b.2 k hk hk'
    by_cases q : st (ky + k) ≤ fd
    · rw [mx_l q] at ob
      rw [mx_l (by omega)]
      by_cases q1 : cr_wh L fd = k
      · rw [if_pos ⟨hk', q, q1⟩, if_pos ⟨hk', q, q1⟩]
        exact ⟨(if_pos q1).symm, (if_pos q1).symm⟩
      · rw [if_neg (fun z => q1 z.2.2), if_neg (fun z => q1 z.2.2)]
        exact ⟨ob.1.trans (if_neg q1).symm, ob.2.trans (if_neg q1).symm⟩
    · rw [if_neg (fun z => q z.2.1), if_neg (fun z => q z.2.1), mx_r (by omega)]
      rw [mx_r (by omega)] at ob
      exact ob
/-- the joiner becomes a member -/
theorem cd_promote {n : Nat} (h : (cr_D L ky jn cp fd fc sr hs st va rq rs fi sz uc ur uk uv uo)) (hj : jn < 6) (hcp : cp = ky + 4) (hfd : fd = n) (hst : ∀ i, i < cp → st i ≤ n) :
    (cr_D L ky 6 0 fd 0 (cr_uN sr jn n) (cr_uN hs jn n) st va rq rs (upd (upd fi jn 0) 6 0) (upd (upd sz jn 0) 6 0) uc ur uk uv uo) := by
  obtain ⟨a, b, d⟩ := h
  refine ⟨fun i hi hi' => ?_, cj_zero, gr_clear⟩
  by_cases q : i = jn
  · subst q
    rw [cr_uNs, cr_uNs]
    refine ⟨Nat.le_refl n, ⟨fun k hk => ?_, fun c hc => ?_⟩, ?_⟩
    · have ob := b.1 k (by omega) hk
      have := hst k (by omega)
      rw [mx_l (by omega), hfd] at ob
      exact ob
    · have ob := b.2 c hc (by omega)
      have := hst (ky + c) (by omega)
      rw [mx_l (by omega), hfd] at ob
      exact ob
    · rw [Nat.sub_self]
      exact gr_dropo gr_clear (by omega)
  · rw [cr_uNn q, cr_uNn q]
    obtain ⟨x, y, z⟩ := a i hi q
    exact ⟨x, y, gr_dropo (gr_dropo z q) (by omega)⟩
end
end
section
section
variable {nd ky wd len jn cp stm fd fc ack N : Nat} {md ch sr hs st : Nat → Nat} {lr : Int32} {L : Nat → cr_E} {pl va rq rs fi sz uc ur uk uv uo aq ar wk : Nat → Int32}
theorem cr_uNid {f : Nat → Nat} {k x : Nat} (h : f k = x) : cr_uN f k x = f := by
  funext j
  by_cases q : j = k
  · rw [q, cr_uNs, h]
  · exact cr_uNn q
theorem kk_inj (h : (pi_K nd len jn md ch pl)) (hC : (pi_C nd ky wd len)) {p q : Nat} (hp : p < len) (hq : q < len) (e : ch p = ch q) : p = q := by
  have h1 := (h.2.2.1 p hp).2.2
  have h2 := (h.2.2.1 q hq).2.2
  rw [e, h2] at h1
  obtain ⟨_, _, _, _, _, _, _, _⟩ := hC
  exact ((nI_eq (by omega) (by omega)).mp h1).symm
theorem kk_lt (h : (pi_K nd len jn md ch pl)) (hC : (pi_C nd ky wd len)) {p : Nat} (hp : p < len) : ch p < 6 := by
  have h1 := (h.2.2.1 p hp).1
  obtain ⟨_, _, _, _, _, _, _, _⟩ := hC
  omega
theorem kk_up (h : (pi_K nd len jn md ch pl)) {p : Nat} (hp : p < len) : md (ch p) = 10 ∨ md (ch p) = 20 := (h.2.2.1 p hp).2.1
theorem kk_pl (h : (pi_K nd len jn md ch pl)) {p : Nat} (hp : p < len) : pl (ch p) = nI p := (h.2.2.1 p hp).2.2
theorem kk_c (h : (pi_K nd len jn md ch pl)) {i : Nat} (hi : i < 6) : (md i = 0 ∧ pl i = -1) ∨ (md i = 1 ∧ pl i = -1 ∧ i = jn ∧ i < nd) ∨ (∃ p, p < len ∧ ch p = i ∧ (md i = 10 ∨ md i = 20) ∧ pl i = nI p) := by
  rcases h.2.2.2 i hi with a | a | ⟨p, hp, e⟩
  · exact Or.inl a
  · exact Or.inr (Or.inl a)
  · subst e
    exact Or.inr (Or.inr ⟨p, hp, rfl, kk_up h hp, kk_pl h hp⟩)
theorem kk_md (h : (pi_K nd len jn md ch pl)) {i : Nat} (hi : i < 6) : md i = 0 ∨ md i = 1 ∨ md i = 10 ∨ md i = 20 := by
  rcases kk_c h hi with a | a | ⟨p, hp, e, a, b⟩ <;> omega
theorem kk_mem (h : (pi_K nd len jn md ch pl)) {i : Nat} (hi : i < 6) (hm : md i = 10 ∨ md i = 20) : ∃ p, p < len ∧ ch p = i ∧ pl i = nI p := by
  rcases kk_c h hi with a | a | ⟨p, hp, e, a, b⟩
  · omega
  · omega
  · exact ⟨p, hp, e, b⟩
theorem kk_jn (h : (pi_K nd len jn md ch pl)) {i : Nat} (hi : i < 6) (hm : md i = 1) : i = jn ∧ i < nd := by
  rcases kk_c h hi with a | a | ⟨p, hp, e, a, b⟩
  · omega
  · exact ⟨a.2.2.1, a.2.2.2⟩
  · omega
theorem kk_jnd (h : (pi_K nd len jn md ch pl)) (hj : jn < 6) : jn < nd := (kk_jn h hj (h.2.1 hj)).2
theorem kk_mlt (h : (pi_K nd len jn md ch pl)) {i : Nat} (hi : i < 6) : md i < 2 ^ 31 := by
  have := kk_md h hi
  omega
theorem hh_max (hC : (pi_C nd ky wd len)) (h : (pi_K nd len jn md ch pl)) (hH : (pi_H wd len ack N md ch sr hs)) (hup : md (ch 0) = 10) {i : Nat} (hi : i < 6) : hs i ≤ hs (ch 0) := by
  by_cases q : md i = 10
  · obtain ⟨p, hp, e, _⟩ := kk_mem h hi (Or.inl q)
    by_cases z : p = 0
    · subst z; rw [e]; exact Nat.le_refl _
    · have := (hH.2.2.1 0 p (by omega) hp hup (by rw [e]; exact q)).1
      rw [e] at this
      exact this
  · have := (hH.2.1 i hi).2.2.2 q
    omega
theorem hh_min (hC : (pi_C nd ky wd len)) (h : (pi_K nd len jn md ch pl)) (hH : (pi_H wd len ack N md ch sr hs)) (hup : md (ch 0) = 10) {i : Nat} (hi : i < 6) (q : md i = 10) : sr (ch 0) ≤ sr i := by
  obtain ⟨p, hp, e, _⟩ := kk_mem h hi (Or.inl q)
  by_cases z : p = 0
  · subst z; rw [e]; exact Nat.le_refl _
  · have := (hH.2.2.1 0 p (by omega) hp hup (by rw [e]; exact q)).2
    rw [e] at this
    exact this
theorem hh_200 (hH : (pi_H wd len ack N md ch sr hs)) {i : Nat} (hi : i < 6) : sr i ≤ hs i ∧ hs i ≤ 200 ∧ hs i ≤ sr i + wd := by
  have h1 := hH.1
  obtain ⟨a, b, c, d⟩ := hH.2.1 i hi
  exact ⟨a, by omega, c⟩
theorem hh_0 (hH : (pi_H wd len ack N md ch sr hs)) {i : Nat} (hi : i < 6) (hm : md i ≠ 10) : sr i = 0 ∧ hs i = 0 := by
  obtain ⟨a, b, c, d⟩ := hH.2.1 i hi
  have := d hm
  omega
theorem hh_ack (hH : (pi_H wd len ack N md ch sr hs)) : ack ≤ N ∧ ack ≤ 200 := by
  obtain ⟨h1, h2, h3, h4, h5, h6, i, hi, hu⟩ := hH
  have := h5 i hi hu
  obtain ⟨a, b, c, d⟩ := h2 i hi
  omega
/-- what settle and publish set -/
def pi_sa (ack : Nat) (md ch sr : Nat → Nat) : Nat := if md (ch 0) = 10 then sr (ch 0) else ack
theorem sa_id (hH : (pi_H wd len ack N md ch sr hs)) : pi_sa ack md ch sr = ack := by
  unfold pi_sa
  split
  · rename_i z
    exact (hH.2.2.2.2.2.1 z).symm
  · rfl
/-- the list with one more update -/
theorem ll_app (hL : (pi_L ky N L)) {n : Nat} (hn : n ≤ N) (e : cr_E) (we : cr_wf (cr_uE L n e) ky n) (hq : cr_Q L n e.2.1 < e.2.2.1) : (pi_L ky (n + 1) (cr_uE L n e)) := by
  intro i hi
  by_cases q : i = n
  · subst q
    refine ⟨we, fun j hj hw => ?_⟩
    have e1 : cr_wh (cr_uE L i e) j = cr_wh L j := by unfold cr_wh; rw [cr_uEn (by omega)]
    have e2 : cr_wh (cr_uE L i e) i = e.2.1 := by unfold cr_wh; rw [cr_uEs]
    have e3 : cr_nu (cr_uE L i e) j = cr_nu L j := by unfold cr_nu; rw [cr_uEn (by omega)]
    have e4 : cr_nu (cr_uE L i e) i = e.2.2.1 := by unfold cr_nu; rw [cr_uEs]
    rw [e1, e2] at hw
    rw [e3, e4]
    rcases cr_lo_c L e.2.1 i with ⟨a, b, c, d⟩ | ⟨m, a, b, c, d, f, g⟩
    · exact absurd hw (d j hj)
    · rw [d] at hq
      by_cases z : j = m
      · subst z; exact hq
      · by_cases y : m < j
        · exact absurd hw (g j y hj)
        · have := (hL m (by omega)).2 j (by omega) (by rw [hw, c])
          exact Int32.lt_trans this hq
  · have e0 : cr_uE L n e i = L i := cr_uEn q
    obtain ⟨a, b⟩ := hL i (by omega)
    refine ⟨?_, fun j hj hw => ?_⟩
    · unfold cr_wf cr_kd cr_wh cr_nu cr_ta cr_so
      rw [e0]
      exact a
    · have e1 : cr_wh (cr_uE L n e) j = cr_wh L j := by unfold cr_wh; rw [cr_uEn (by omega)]
      have e2 : cr_wh (cr_uE L n e) i = cr_wh L i := by unfold cr_wh; rw [e0]
      have e3 : cr_nu (cr_uE L n e) j = cr_nu L j := by unfold cr_nu; rw [cr_uEn (by omega)]
      have e4 : cr_nu (cr_uE L n e) i = cr_nu L i := by unfold cr_nu; rw [e0]
      rw [e1, e2] at hw
      rw [e3, e4]
      exact b j hj hw
/-- an update enters at the head of a longer chain -/
theorem pq_enter2 (h : (pi_P nd ky wd len jn cp stm fd fc ack N md ch sr hs st L pl)) (hup : md (ch 0) = 10) (hn : hs (ch 0) < 200) (hw : hs (ch 0) - sr (ch 0) < wd) (hl : len ≠ 1)
    (e : cr_E) (we : cr_wf (cr_uE L (hs (ch 0)) e) ky (hs (ch 0))) (hq : cr_Q L (hs (ch 0)) e.2.1 < e.2.2.1) :
    (pi_P nd ky wd len jn cp stm fd fc ack (hs (ch 0) + 1) md ch sr (cr_uN hs (ch 0) (hs (ch 0) + 1)) st (cr_uE L (hs (ch 0)) e) pl) := by
  obtain ⟨hC, hK, hH, hL, hT⟩ := h
  have hl1 : 1 ≤ len := hC.2.2.2.2.2.2.1
  have h06 := kk_lt hK hC (p := 0) (by omega)
  have hne : ∀ p, p < len → p ≠ 0 → ch p ≠ ch 0 := fun p hp hz z => hz (kk_inj hK hC hp (by omega) z)
  have hm := fun i hi => hh_max hC hK hH hup (i := i) hi
  have hN := (hH.2.1 (ch 0) h06).2.1
  have htl := hne (len - 1) (by omega) (by omega)
  refine ⟨hC, hK, ?_, ll_app hL hN e we hq, ?_⟩
  · obtain ⟨h1, h2, h3, h4, h5, h6, h7⟩ := hH
    refine ⟨by omega, fun i hi => ?_, fun p q hp hq up uq => ?_, ?_, h5, h6, h7⟩
    · obtain ⟨a, b, c, d⟩ := h2 i hi
      have := hm i hi
      by_cases z : i = ch 0
      · rw [z] at a b c d ⊢
        rw [cr_uNs]
        exact ⟨by omega, by omega, by omega, fun y => absurd hup y⟩
      · rw [cr_uNn z]
        exact ⟨a, by omega, c, d⟩
    · obtain ⟨a, b⟩ := h3 p q hp hq up uq
      rw [cr_uNn (hne q hq (by omega))]
      refine ⟨?_, b⟩
      by_cases z : ch p = ch 0
      · rw [z] at a ⊢
        rw [cr_uNs]
        omega
      · rw [cr_uNn z]
        exact a
    · rw [cr_uNn htl]
      exact h4
  · unfold pi_T
    rw [cr_uNn htl]
    exact hT
/-- an update enters at the only member -/
theorem pq_enter1 (h : (pi_P nd ky wd len jn cp stm fd fc ack N md ch sr hs st L pl)) (hup : md (ch 0) = 10) (hn : hs (ch 0) < 200) (hw : hs (ch 0) - sr (ch 0) < wd) (hl : len = 1) {fc' : Nat}
    (hf : jn < 6 → fc < wd ∧ fc' = fc + 1) (hf' : jn = 6 → fc' = fc)
    (e : cr_E) (we : cr_wf (cr_uE L (hs (ch 0)) e) ky (hs (ch 0))) (hq : cr_Q L (hs (ch 0)) e.2.1 < e.2.2.1) :
    (pi_P nd ky wd len jn cp stm fd fc' (hs (ch 0) + 1) (hs (ch 0) + 1) md ch (cr_uN sr (ch 0) (hs (ch 0) + 1)) (cr_uN hs (ch 0) (hs (ch 0) + 1)) st (cr_uE L (hs (ch 0)) e) pl) := by
  obtain ⟨hC, hK, hH, hL, hT⟩ := h
  subst hl
  have h06 := kk_lt hK hC (p := 0) (by omega)
  have hm := fun i hi => hh_max hC hK hH hup (i := i) hi
  have hN := (hH.2.1 (ch 0) h06).2.1
  have hjn := hK.1
  have huq : ∀ i, i < 6 → md i = 10 → i = ch 0 := by
    intro i hi hu
    obtain ⟨p, hp, e, _⟩ := kk_mem hK hi (Or.inl hu)
    rw [show p = 0 by omega] at e
    exact e.symm
  refine ⟨hC, hK, ?_, ll_app hL hN e we hq, ?_⟩
  · obtain ⟨h1, h2, h3, h4, h5, h6, h7⟩ := hH
    refine ⟨by omega, fun i hi => ?_, fun p q hp hq up uq => by omega, ?_, fun i hi hu => ?_, fun _ => ?_, h7⟩
    · obtain ⟨a, b, c, d⟩ := h2 i hi
      have := hm i hi
      by_cases z : i = ch 0
      · rw [z] at a b c d ⊢
        rw [cr_uNs, cr_uNs]
        exact ⟨by omega, by omega, by omega, fun y => absurd hup y⟩
      · rw [cr_uNn z, cr_uNn z]
        exact ⟨a, by omega, c, d⟩
    · intro _
      show cr_uN sr (ch 0) (hs (ch 0) + 1) (ch 0) = cr_uN hs (ch 0) (hs (ch 0) + 1) (ch 0)
      rw [cr_uNs, cr_uNs]
    · rw [huq i hi hu, cr_uNs]
      exact Nat.le_refl _
    · rw [cr_uNs]
  · obtain ⟨h1, h2, h3, h4, h5, h6⟩ := hT
    refine ⟨h1, h2, h3, h4, fun hj hu => ?_, fun z => ?_⟩
    · obtain ⟨a, b, c⟩ := h5 hj hu
      obtain ⟨f1, f2⟩ := hf hj
      show fd + fc' = cr_uN hs (ch 0) (hs (ch 0) + 1) (ch 0) ∧ fc' ≤ wd ∧ ∀ i, i < cp → st i ≤ cr_uN hs (ch 0) (hs (ch 0) + 1) (ch 0)
      have a' : fd + fc = hs (ch 0) := a
      rw [cr_uNs]
      refine ⟨by omega, by omega, fun i hi => ?_⟩
      have : st i ≤ hs (ch 0) := c i hi
      omega
    · rcases z with z | z
      · obtain ⟨a, b⟩ := h6 (Or.inl z)
        have := hf' z
        exact ⟨a, by omega⟩
      · exact absurd hup z
end
end
section
section
variable {nd ky wd len jn cp stm fd fc ack N : Nat} {md ch sr hs st : Nat → Nat} {lr : Int32} {L : Nat → cr_E} {pl va rq rs fi sz uc ur uk uv uo aq ar wk : Nat → Int32}
theorem sa_ok {sr' : Nat → Nat} (hC : (pi_C nd ky wd len)) (hK : (pi_K nd len jn md ch pl)) (hp : ∀ p q, p < q → q < len → md (ch p) = 10 → md (ch q) = 10 → sr' (ch p) ≤ sr' (ch q)) (h5 : ∀ i, i < 6 → md i = 10 → ack ≤ sr' i) :
    (∀ i, i < 6 → md i = 10 → pi_sa ack md ch sr' ≤ sr' i) ∧ (md (ch 0) = 10 → pi_sa ack md ch sr' = sr' (ch 0)) := by
  unfold pi_sa
  split
  · rename_i z
    refine ⟨fun i hi hu => ?_, fun _ => rfl⟩
    obtain ⟨p, hpl, e, _⟩ := kk_mem hK hi (Or.inl hu)
    by_cases y : p = 0
    · rw [← e, y]; exact Nat.le_refl _
    · have := hp 0 p (by omega) hpl z (by rw [e]; exact hu)
      rw [e] at this
      exact this
  · rename_i z
    exact ⟨h5, fun y => absurd y z⟩
theorem pq_del (h : (pi_P nd ky wd len jn cp stm fd fc ack N md ch sr hs st L pl)) {p : Nat} (hp1 : 1 ≤ p) (hp : p < len) (hup : md (ch p) = 10) (hsrc : md (ch (p - 1)) = 10) (hne : hs (ch p) ≠ hs (ch (p - 1))) (hnt : p ≠ len - 1) :
    (pi_P nd ky wd len jn cp stm fd fc ack N md ch sr (cr_uN hs (ch p) (hs (ch p) + 1)) st L pl) := by
  obtain ⟨hC, hK, hH, hL, hT⟩ := h
  have h6 := kk_lt hK hC hp
  have h6' := kk_lt hK hC (p := p - 1) (by omega)
  have htl : ch (len - 1) ≠ ch p := fun z => hnt (kk_inj hK hC (by omega) hp z).symm
  have hst := hH.2.2.1 (p - 1) p (by omega) hp hsrc hup
  refine ⟨hC, hK, ?_, hL, ?_⟩
  · obtain ⟨h1, h2, h3, h4, h5, h6, h7⟩ := hH
    obtain ⟨a', b', c', d'⟩ := h2 (ch (p - 1)) h6'
    refine ⟨h1, fun i hi => ?_, fun a b hab hb ua ub => ?_, ?_, h5, h6, h7⟩
    · obtain ⟨a, b, c, d⟩ := h2 i hi
      by_cases z : i = ch p
      · rw [z] at a b c d ⊢
        rw [cr_uNs]
        exact ⟨by omega, by omega, by omega, fun y => absurd hup y⟩
      · rw [cr_uNn z]
        exact ⟨a, b, c, d⟩
    · obtain ⟨x, y⟩ := h3 a b hab hb ua ub
      refine ⟨?_, y⟩
      by_cases z : ch b = ch p
      · have e := kk_inj hK hC hb hp z
        rw [z, cr_uNs]
        rw [cr_uNn (fun q => by have := kk_inj hK hC (by omega) hp q; omega)]
        by_cases w : a = p - 1
        · rw [w]; omega
        · have := (h3 a (p - 1) (by omega) (by omega) ua hsrc).1
          omega
      · rw [cr_uNn z]
        by_cases w : ch a = ch p
        · rw [w] at x ⊢
          rw [cr_uNs]
          omega
        · rw [cr_uNn w]
          exact x
    · rw [cr_uNn htl]
      exact h4
  · unfold pi_T
    rw [cr_uNn htl]
    exact hT
theorem pq_delT (h : (pi_P nd ky wd len jn cp stm fd fc ack N md ch sr hs st L pl)) {p : Nat} (hp1 : 1 ≤ p) (hp : p < len) (hup : md (ch p) = 10) (hsrc : md (ch (p - 1)) = 10) (hne : hs (ch p) ≠ hs (ch (p - 1))) (hnt : p = len - 1) {fc' : Nat}
    (hf : jn < 6 → fc < wd ∧ fc' = fc + 1) (hf' : jn = 6 → fc' = fc) :
    (pi_P nd ky wd len jn cp stm fd fc' ack N md ch (cr_uN sr (ch p) (hs (ch p) + 1)) (cr_uN hs (ch p) (hs (ch p) + 1)) st L pl) := by
  obtain ⟨hC, hK, hH, hL, hT⟩ := h
  have h6 := kk_lt hK hC hp
  have h6' := kk_lt hK hC (p := p - 1) (by omega)
  have hjn := hK.1
  have hst := hH.2.2.1 (p - 1) p (by omega) hp hsrc hup
  have hwd : 1 ≤ wd := hC.2.2.2.2.1
  have h0 : ch 0 ≠ ch p := fun z => by have := kk_inj hK hC (by omega) hp z; omega
  subst hnt
  refine ⟨hC, hK, ?_, hL, ?_⟩
  · obtain ⟨h1, h2, h3, h4, h5, h6, h7⟩ := hH
    have et := h4 hup
    obtain ⟨a', b', c', d'⟩ := h2 (ch (len - 1 - 1)) h6'
    refine ⟨h1, fun i hi => ?_, fun a b hab hb ua ub => ?_, ?_, fun i hi hu => ?_, ?_, h7⟩
    · obtain ⟨a, b, c, d⟩ := h2 i hi
      by_cases z : i = ch (len - 1)
      · rw [z] at a b c d ⊢
        rw [cr_uNs, cr_uNs]
        exact ⟨by omega, by omega, by omega, fun y => absurd hup y⟩
      · rw [cr_uNn z, cr_uNn z]
        exact ⟨a, b, c, d⟩
    · obtain ⟨x, y⟩ := h3 a b hab hb ua ub
      have na : ch a ≠ ch (len - 1) := fun q => by have := kk_inj hK hC (by omega) hp q; omega
      rw [cr_uNn na, cr_uNn na]
      by_cases z : ch b = ch (len - 1)
      · have e := kk_inj hK hC hb hp z
        rw [z] at x y ⊢
        rw [cr_uNs, cr_uNs]
        refine ⟨?_, by omega⟩
        by_cases w : a = len - 1 - 1
        · rw [w]; omega
        · have := (h3 a (len - 1 - 1) (by omega) (by omega) ua hsrc).1
          omega
      · rw [cr_uNn z, cr_uNn z]
        exact ⟨x, y⟩
    · intro _
      rw [cr_uNs, cr_uNs]
    · have := h5 i hi hu
      by_cases z : i = ch (len - 1)
      · rw [z] at this ⊢
        rw [cr_uNs]
        omega
      · rw [cr_uNn z]
        exact this
    · rw [cr_uNn h0]
      exact h6
  · obtain ⟨h1, h2, h3, h4, h5, h6⟩ := hT
    refine ⟨h1, h2, h3, h4, fun hj hu => ?_, fun z => ?_⟩
    · obtain ⟨a, b, c⟩ := h5 hj hu
      obtain ⟨f1, f2⟩ := hf hj
      rw [cr_uNs]
      refine ⟨by omega, by omega, fun i hi => ?_⟩
      have := c i hi
      omega
    · rcases z with z | z
      · obtain ⟨a, b⟩ := h6 (Or.inl z)
        have := hf' z
        exact ⟨a, by omega⟩
      · exact absurd hup z
theorem pq_ack (h : (pi_P nd ky wd len jn cp stm fd fc ack N md ch sr hs st L pl)) {p : Nat} (hp : p + 1 < len) (hup : md (ch p) = 10) (hsuc : md (ch (p + 1)) = 10) (hne : sr (ch p) ≠ sr (ch (p + 1))) :
    sr (ch p) < hs (ch p) ∧ (pi_P nd ky wd len jn cp stm fd fc (pi_sa ack md ch (cr_uN sr (ch p) (sr (ch p) + 1))) N md ch (cr_uN sr (ch p) (sr (ch p) + 1)) hs st L pl) := by
  obtain ⟨hC, hK, hH, hL, hT⟩ := h
  have h6 := kk_lt hK hC (p := p) (by omega)
  have h6' := kk_lt hK hC (p := p + 1) (by omega)
  have htl : ch (len - 1) ≠ ch p := fun z => by have := kk_inj hK hC (by omega) (by omega) z; omega
  have hst := hH.2.2.1 p (p + 1) (by omega) hp hup hsuc
  have hsc := hH.2.1 _ h6'
  have lt : sr (ch p) < hs (ch p) := by omega
  refine ⟨lt, hC, hK, ?_, hL, hT⟩
  obtain ⟨h1, h2, h3, h4, h5, h6, h7⟩ := hH
  have pr : ∀ a b, a < b → b < len → md (ch a) = 10 → md (ch b) = 10 → hs (ch b) ≤ hs (ch a) ∧ cr_uN sr (ch p) (sr (ch p) + 1) (ch a) ≤ cr_uN sr (ch p) (sr (ch p) + 1) (ch b) := by
    intro a b hab hb ua ub
    obtain ⟨x, y⟩ := h3 a b hab hb ua ub
    refine ⟨x, ?_⟩
    by_cases z : ch a = ch p
    · have e := kk_inj hK hC (by omega) (by omega) z
      subst e
      rw [cr_uNs, cr_uNn (fun q => by have := kk_inj hK hC hb (by omega) q; omega)]
      by_cases w : b = a + 1
      · rw [w]; omega
      · have := (h3 (a + 1) b (by omega) hb hsuc ub).2
        omega
    · rw [cr_uNn z]
      by_cases w : ch b = ch p
      · rw [w] at y ⊢
        rw [cr_uNs]
        omega
      · rw [cr_uNn w]
        exact y
  obtain ⟨k1, k2⟩ := sa_ok (ack := ack) hC hK (fun a b hab hb ua ub => (pr a b hab hb ua ub).2) (fun i hi hu => by
    have := h5 i hi hu
    by_cases z : i = ch p
    · rw [z] at this ⊢
      rw [cr_uNs]
      omega
    · rw [cr_uNn z]
      exact this)
  refine ⟨h1, fun i hi => ?_, pr, ?_, k1, k2, h7⟩
  · obtain ⟨a, b, c, d⟩ := h2 i hi
    by_cases z : i = ch p
    · rw [z] at a b c d ⊢
      rw [cr_uNs]
      exact ⟨by omega, by omega, by omega, d⟩
    · rw [cr_uNn z]
      exact ⟨a, b, c, d⟩
  · rw [cr_uNn htl]
    exact h4
theorem pq_crashJ (h : (pi_P nd ky wd len jn cp stm fd fc ack N md ch sr hs st L pl)) (hj : jn < 6) : (pi_P nd ky wd len 6 0 stm fd 0 ack N (cr_uN md jn 0) ch sr hs st L pl) := by
  obtain ⟨hC, hK, hH, hL, hT⟩ := h
  have hm1 := hK.2.1 hj
  have hne : ∀ i, md i = 10 ∨ md i = 20 → cr_uN md jn 0 i = md i := fun i hi => cr_uNn (fun z => by rw [z] at hi; omega)
  have hne' : ∀ i, cr_uN md jn 0 i = 10 → md i = 10 := fun i hi => by
    by_cases z : i = jn
    · rw [z, cr_uNs] at hi; omega
    · rw [cr_uNn z] at hi; exact hi
  have hl1 : 1 ≤ len := hC.2.2.2.2.2.2.1
  refine ⟨hC, ⟨Nat.le_refl 6, fun z => by omega, fun p hp => ?_, fun i hi => ?_⟩, ?_, hL, ?_⟩
  · obtain ⟨a, b, c⟩ := hK.2.2.1 p hp
    rw [hne _ b]
    exact ⟨a, b, c⟩
  · by_cases z : i = jn
    · rw [z, cr_uNs]
      rcases kk_c hK hj with a | a | ⟨p, hp, e, a, b⟩
      · omega
      · exact Or.inl ⟨rfl, a.2.1⟩
      · omega
    · rw [cr_uNn z]
      rcases hK.2.2.2 i hi with a | a | a
      · exact Or.inl a
      · exact absurd a.2.2.1 z
      · exact Or.inr (Or.inr a)
  · obtain ⟨h1, h2, h3, h4, h5, h6, i0, hi0, hu0⟩ := hH
    refine ⟨h1, fun i hi => ?_, fun p q hpq hq up uq => h3 p q hpq hq (hne' _ up) (hne' _ uq), fun z => h4 (hne' _ z), fun i hi hu => h5 i hi (hne' _ hu), fun z => h6 (hne' _ z), i0, hi0, ?_⟩
    · obtain ⟨a, b, c, d⟩ := h2 i hi
      refine ⟨a, b, c, fun z => d (fun y => z ?_)⟩
      rw [hne _ (Or.inl y)]
      exact y
    · rw [hne _ (Or.inl hu0)]
      exact hu0
  · obtain ⟨h1, h2, h3, h4, h5, h6⟩ := hT
    exact ⟨h1, by omega, h3, fun z => by omega, fun z => by omega, fun _ => ⟨rfl, rfl⟩⟩
theorem pq_crash (h : (pi_P nd ky wd len jn cp stm fd fc ack N md ch sr hs st L pl)) {p cp' fc' stm' : Nat} (hp : p < len) (hup : md (ch p) = 10) (ho : ∃ i, i < 6 ∧ i ≠ ch p ∧ md i = 10)
    (hn : p ≠ len - 1 → cp' = cp ∧ fc' = fc ∧ stm' = stm) (ht : p = len - 1 → cp' = 0 ∧ fc' = 0 ∧ stm' ≤ stm ∧ (jn < 6 → stm' = 0)) :
    (pi_P nd ky wd len jn cp' stm' fd fc' ack N (cr_uN md (ch p) 20) ch (cr_uN sr (ch p) 0) (cr_uN hs (ch p) 0) st L pl) := by
  obtain ⟨hC, hK, hH, hL, hT⟩ := h
  have hl1 : 1 ≤ len := hC.2.2.2.2.2.2.1
  have h6 := kk_lt hK hC hp
  have hne' : ∀ i, cr_uN md (ch p) 20 i = 10 → i ≠ ch p ∧ md i = 10 := fun i hi => by
    by_cases z : i = ch p
    · rw [z, cr_uNs] at hi; omega
    · rw [cr_uNn z] at hi; exact ⟨z, hi⟩
  refine ⟨hC, ⟨hK.1, fun z => ?_, fun q hq => ?_, fun i hi => ?_⟩, ?_, hL, ?_⟩
  · have := hK.2.1 z
    rw [cr_uNn (fun y => by rw [y] at this; omega)]
    exact this
  · obtain ⟨a, b, c⟩ := hK.2.2.1 q hq
    refine ⟨a, ?_, c⟩
    by_cases z : ch q = ch p
    · rw [z, cr_uNs]; exact Or.inr rfl
    · rw [cr_uNn z]; exact b
  · by_cases z : i = ch p
    · exact Or.inr (Or.inr ⟨p, hp, z.symm⟩)
    · rw [cr_uNn z]
      exact hK.2.2.2 i hi
  · obtain ⟨h1, h2, h3, h4, h5, h6, h7⟩ := hH
    obtain ⟨i0, hi0, hz0, hu0⟩ := ho
    refine ⟨h1, fun i hi => ?_, fun a b hab hb ua ub => ?_, fun z => ?_, fun i hi hu => ?_, fun z => ?_, i0, hi0, ?_⟩
    · obtain ⟨a, b, c, d⟩ := h2 i hi
      by_cases z : i = ch p
      · rw [z, cr_uNs, cr_uNs]
        exact ⟨Nat.le_refl 0, by omega, by omega, fun _ => rfl⟩
      · rw [cr_uNn z, cr_uNn z, cr_uNn z]
        exact ⟨a, b, c, d⟩
    · obtain ⟨x1, x2⟩ := hne' _ ua
      obtain ⟨y1, y2⟩ := hne' _ ub
      rw [cr_uNn x1, cr_uNn x1, cr_uNn y1, cr_uNn y1]
      exact h3 a b hab hb x2 y2
    · obtain ⟨x1, x2⟩ := hne' _ z
      rw [cr_uNn x1, cr_uNn x1]
      exact h4 x2
    · obtain ⟨x1, x2⟩ := hne' _ hu
      rw [cr_uNn x1]
      exact h5 i hi x2
    · obtain ⟨x1, x2⟩ := hne' _ z
      rw [cr_uNn x1]
      exact h6 x2
    · rw [cr_uNn hz0]
      exact hu0
  · obtain ⟨h1, h2, h3, h4, h5, h6⟩ := hT
    by_cases z : p = len - 1
    · obtain ⟨a, b, c, d⟩ := ht z
      subst z
      refine ⟨h1, by omega, by omega, fun y => by have := d y; omega, fun y z => ?_, fun _ => ⟨a, b⟩⟩
      rw [cr_uNs] at z
      omega
    · obtain ⟨a, b, c⟩ := hn z
      subst a b c
      have htl : ch (len - 1) ≠ ch p := fun y => z (kk_inj hK hC (by omega) hp y).symm
      unfold pi_T
      rw [cr_uNn htl, cr_uNn htl]
      exact ⟨h1, h2, h3, h4, h5, h6⟩
end
end
section
section
variable {nd ky wd len jn cp stm fd fc ack N : Nat} {md ch sr hs st : Nat → Nat} {lr : Int32} {L : Nat → cr_E} {pl va rq rs fi sz uc ur uk uv uo aq ar wk : Nat → Int32}
variable {pl' : Nat → Int32}
/-- the chain without its place p -/
def pi_dl (ch : Nat → Nat) (p len : Nat) : Nat → Nat := fun i => if p ≤ i ∧ i < len - 1 then ch (i + 1) else ch i
theorem dl_lo {p i : Nat} (h : i < p) : pi_dl ch p len i = ch i := if_neg (by omega)
theorem dl_hi {p i : Nat} (h : p ≤ i) (h' : i < len - 1) : pi_dl ch p len i = ch (i + 1) := if_pos ⟨h, h'⟩
theorem dl_ex {p i : Nat} (h : i < len - 1) : ∃ q, q < len ∧ q ≠ p ∧ pi_dl ch p len i = ch q ∧ (i < p → q = i) ∧ (p ≤ i → q = i + 1) := by
  by_cases z : i < p
  · exact ⟨i, by omega, by omega, dl_lo z, fun _ => rfl, fun y => by omega⟩
  · exact ⟨i + 1, by omega, by omega, dl_hi (by omega) h, fun y => by omega, fun _ => rfl⟩
theorem pq_len2 (h : (pi_P nd ky wd len jn cp stm fd fc ack N md ch sr hs st L pl)) {p : Nat} (hp : p < len) (hd : md (ch p) = 20) : 2 ≤ len := by
  obtain ⟨hC, hK, hH, hL, hT⟩ := h
  obtain ⟨i0, hi0, hu0⟩ := hH.2.2.2.2.2.2
  obtain ⟨q, hq, e, _⟩ := kk_mem hK hi0 (Or.inl hu0)
  have : p ≠ q := fun z => by rw [z, e, hu0] at hd; omega
  omega
theorem pq_spK (hC : (pi_C nd ky wd len)) (hK : (pi_K nd len jn md ch pl)) {p : Nat} (hp : p < len) (hd : md (ch p) = 20) (hl : 2 ≤ len)
    (p1 : pl' (ch p) = -1) (p2 : ∀ q, q < len - 1 → pl' (pi_dl ch p len q) = nI q) (p3 : ∀ i, i < 6 → (∀ q, q < len → ch q ≠ i) → pl' i = pl i) :
    (pi_K nd (len - 1) jn (cr_uN md (ch p) 0) (pi_dl ch p len) pl') := by
  have hne : ∀ q, q < len → q ≠ p → cr_uN md (ch p) 0 (ch q) = md (ch q) := fun q hq hz => cr_uNn (fun y => hz (kk_inj hK hC hq hp y))
  refine ⟨hK.1, fun z => ?_, fun i hi => ?_, fun i hi => ?_⟩
  · have := hK.2.1 z
    rw [cr_uNn (fun y => by rw [y] at this; omega)]
    exact this
  · obtain ⟨q, hq, hz, e, _, _⟩ := dl_ex (ch := ch) (p := p) hi
    have := p2 i hi
    rw [e] at this ⊢
    rw [hne q hq hz]
    exact ⟨(hK.2.2.1 q hq).1, kk_up hK hq, this⟩
  · by_cases z : i = ch p
    · rw [z, cr_uNs]
      exact Or.inl ⟨rfl, p1⟩
    · rw [cr_uNn z]
      rcases kk_c hK hi with a | a | ⟨q, hq, e, a, b⟩
      · rw [p3 i hi (fun q hq y => by have := kk_up hK hq; rw [y] at this; omega)]
        exact Or.inl a
      · rw [p3 i hi (fun q hq y => by have := kk_up hK hq; rw [y] at this; omega)]
        exact Or.inr (Or.inl a)
      · right; right
        have hqp : q ≠ p := fun y => z (by rw [← e, y])
        by_cases y : q < p
        · exact ⟨q, by omega, (dl_lo y).trans e⟩
        · refine ⟨q - 1, by omega, ?_⟩
          rw [dl_hi (by omega) (by omega), show q - 1 + 1 = q by omega]
          exact e
/-- a member taken out that leaves no new tail that is up -/
theorem pq_spA (h : (pi_P nd ky wd len jn cp stm fd fc ack N md ch sr hs st L pl)) {p : Nat} (hp : p < len) (hd : md (ch p) = 20)
    (p1 : pl' (ch p) = -1) (p2 : ∀ q, q < len - 1 → pl' (pi_dl ch p len q) = nI q) (p3 : ∀ i, i < 6 → (∀ q, q < len → ch q ≠ i) → pl' i = pl i)
    (hx : p = len - 1 → cr_uN md (ch p) 0 (pi_dl ch p len (len - 1 - 1)) ≠ 10) :
    (pi_P nd ky wd (len - 1) jn cp stm fd fc (pi_sa ack (cr_uN md (ch p) 0) (pi_dl ch p len) sr) N (cr_uN md (ch p) 0) (pi_dl ch p len) sr hs st L pl') := by
  have hl := pq_len2 h hp hd
  obtain ⟨hC, hK, hH, hL, hT⟩ := h
  have hK' := pq_spK hC hK hp hd hl p1 p2 p3
  have hC' : (pi_C nd ky wd (len - 1)) := by
    obtain ⟨c1, c2, c3, c4, c5, c6, c7, c8⟩ := hC
    exact ⟨c1, c2, c3, c4, c5, c6, by omega, by omega⟩
  have hne' : ∀ i, cr_uN md (ch p) 0 i = 10 → i ≠ ch p ∧ md i = 10 := fun i hi => by
    by_cases z : i = ch p
    · rw [z, cr_uNs] at hi; omega
    · rw [cr_uNn z] at hi; exact ⟨z, hi⟩
  refine ⟨hC', hK', ?_, hL, ?_⟩
  · obtain ⟨h1, h2, h3, h4, h5, h6, i0, hi0, hu0⟩ := hH
    have pr : ∀ a b, a < b → b < len - 1 → cr_uN md (ch p) 0 (pi_dl ch p len a) = 10 → cr_uN md (ch p) 0 (pi_dl ch p len b) = 10 → hs (pi_dl ch p len b) ≤ hs (pi_dl ch p len a) ∧ sr (pi_dl ch p len a) ≤ sr (pi_dl ch p len b) := by
      intro a b hab hb ua ub
      obtain ⟨q, hq, hz, e, f1, f2⟩ := dl_ex (ch := ch) (p := p) (len := len) (i := a) (by omega)
      obtain ⟨q', hq', hz', e', f1', f2'⟩ := dl_ex (ch := ch) (p := p) hb
      rw [e] at ua ⊢
      rw [e'] at ub ⊢
      exact h3 q q' (by omega) hq' (hne' _ ua).2 (hne' _ ub).2
    obtain ⟨k1, k2⟩ := sa_ok (ack := ack) hC' hK' (fun a b hab hb ua ub => (pr a b hab hb ua ub).2) (fun i hi hu => h5 i hi (hne' _ hu).2)
    refine ⟨h1, fun i hi => ?_, pr, fun z => ?_, k1, k2, i0, hi0, ?_⟩
    · obtain ⟨a, b, c, d⟩ := h2 i hi
      refine ⟨a, b, c, fun z => ?_⟩
      by_cases y : i = ch p
      · rw [y] at d ⊢; exact d (by omega)
      · rw [cr_uNn y] at z; exact d z
    · by_cases y : p = len - 1
      · exact absurd z (hx y)
      · have e : pi_dl ch p len (len - 1 - 1) = ch (len - 1) := by
          rw [dl_hi (by omega) (by omega), show len - 1 - 1 + 1 = len - 1 by omega]
        rw [e] at z ⊢
        exact h4 (hne' _ z).2
    · rw [cr_uNn (fun z => by rw [z] at hu0; omega)]
      exact hu0
  · obtain ⟨h1, h2, h3, h4, h5, h6⟩ := hT
    by_cases y : p = len - 1
    · have hz := h6 (Or.inr (by rw [← y]; omega))
      refine ⟨h1, h2, h3, h4, fun _ z => absurd z (hx y), fun _ => hz⟩
    · have e : pi_dl ch p len (len - 1 - 1) = ch (len - 1) := by
        rw [dl_hi (by omega) (by omega), show len - 1 - 1 + 1 = len - 1 by omega]
      have e2 : cr_uN md (ch p) 0 (ch (len - 1)) = md (ch (len - 1)) := cr_uNn (fun z => y (kk_inj hK hC (by omega) hp z).symm)
      unfold pi_T
      rw [e, e2]
      exact ⟨h1, h2, h3, h4, h5, h6⟩
/-- the tail taken out, a new tail that is up -/
theorem pq_spB (h : (pi_P nd ky wd len jn cp stm fd fc ack N md ch sr hs st L pl)) {p fd' stm' : Nat} (hp : p < len) (hd : md (ch p) = 20)
    (p1 : pl' (ch p) = -1) (p2 : ∀ q, q < len - 1 → pl' (pi_dl ch p len q) = nI q) (p3 : ∀ i, i < 6 → (∀ q, q < len → ch q ≠ i) → pl' i = pl i)
    (ht : p = len - 1) (hu : md (ch (len - 1 - 1)) = 10) (hj : jn < 6 → fd' = hs (ch (len - 1 - 1)) ∧ stm' = 0) (hj' : jn = 6 → fd' = fd ∧ stm' = stm) :
    (pi_P nd ky wd (len - 1) jn 0 stm' fd' 0 (pi_sa ack (cr_uN md (ch p) 0) (pi_dl ch p len) (cr_uN sr (ch (len - 1 - 1)) (hs (ch (len - 1 - 1))))) N (cr_uN md (ch p) 0) (pi_dl ch p len) (cr_uN sr (ch (len - 1 - 1)) (hs (ch (len - 1 - 1)))) hs st L pl') := by
  have hl := pq_len2 h hp hd
  obtain ⟨hC, hK, hH, hL, hT⟩ := h
  have hK' := pq_spK hC hK hp hd hl p1 p2 p3
  have hC' : (pi_C nd ky wd (len - 1)) := by
    obtain ⟨c1, c2, c3, c4, c5, c6, c7, c8⟩ := hC
    exact ⟨c1, c2, c3, c4, c5, c6, by omega, by omega⟩
  have hne' : ∀ i, cr_uN md (ch p) 0 i = 10 → i ≠ ch p ∧ md i = 10 := fun i hi => by
    by_cases z : i = ch p
    · rw [z, cr_uNs] at hi; omega
    · rw [cr_uNn z] at hi; exact ⟨z, hi⟩
  have dl : ∀ i, i < len - 1 → pi_dl ch p len i = ch i := fun i hi => dl_lo (by omega)
  have et := dl (len - 1 - 1) (by omega)
  have t6 := kk_lt hK hC (p := len - 1 - 1) (by omega)
  have hjn := hK.1
  refine ⟨hC', hK', ?_, hL, ?_⟩
  · obtain ⟨h1, h2, h3, h4, h5, h6, i0, hi0, hu0⟩ := hH
    have pr : ∀ a b, a < b → b < len - 1 → cr_uN md (ch p) 0 (pi_dl ch p len a) = 10 → cr_uN md (ch p) 0 (pi_dl ch p len b) = 10 → hs (pi_dl ch p len b) ≤ hs (pi_dl ch p len a) ∧ cr_uN sr (ch (len - 1 - 1)) (hs (ch (len - 1 - 1))) (pi_dl ch p len a) ≤ cr_uN sr (ch (len - 1 - 1)) (hs (ch (len - 1 - 1))) (pi_dl ch p len b) := by
      intro a b hab hb ua ub
      rw [dl a (by omega)] at ua ⊢
      rw [dl b (by omega)] at ub ⊢
      obtain ⟨x, y⟩ := h3 a b hab (by omega) (hne' _ ua).2 (hne' _ ub).2
      refine ⟨x, ?_⟩
      rw [cr_uNn (f := sr) (j := ch a) (fun q => by have := kk_inj hK hC (by omega) (by omega) q; omega)]
      by_cases z : ch b = ch (len - 1 - 1)
      · rw [z] at y ⊢
        rw [cr_uNs]
        have := (h2 _ t6).1
        omega
      · rw [cr_uNn z]
        exact y
    obtain ⟨k1, k2⟩ := sa_ok (ack := ack) hC' hK' (fun a b hab hb ua ub => (pr a b hab hb ua ub).2) (fun i hi hu => by
      have := h5 i hi (hne' _ hu).2
      by_cases z : i = ch (len - 1 - 1)
      · rw [z] at this ⊢
        rw [cr_uNs]
        have := (h2 _ t6).1
        omega
      · rw [cr_uNn z]
        exact this)
    refine ⟨h1, fun i hi => ?_, pr, fun z => ?_, k1, k2, i0, hi0, ?_⟩
    · obtain ⟨a, b, c, d⟩ := h2 i hi
      have dd : cr_uN md (ch p) 0 i ≠ 10 → hs i = 0 := fun z => by
        by_cases y : i = ch p
        · rw [y] at d ⊢; exact d (by omega)
        · rw [cr_uNn y] at z; exact d z
      by_cases y : i = ch (len - 1 - 1)
      · rw [y] at b dd ⊢
        rw [cr_uNs]
        exact ⟨Nat.le_refl _, b, by omega, dd⟩
      · rw [cr_uNn y]
        exact ⟨a, b, c, dd⟩
    · rw [et, cr_uNs]
    · rw [cr_uNn (fun z => by rw [z] at hu0; omega)]
      exact hu0
  · obtain ⟨h1, h2, h3, h4, h5, h6⟩ := hT
    have e200 := (hh_200 hH t6).2.1
    refine ⟨?_, by omega, ?_, fun z => (hj z).2, fun z _ => ?_, fun _ => ⟨rfl, rfl⟩⟩
    · by_cases z : jn < 6
      · have := (hj z).1; omega
      · have := (hj' (by omega)).1; omega
    · by_cases z : jn < 6
      · have := (hj z).2; omega
      · have := (hj' (by omega)).2; omega
    · rw [et]
      have := (hj z).1
      exact ⟨by omega, by omega, fun i hi => absurd hi (Nat.not_lt_zero i)⟩
theorem pq_join (h : (pi_P nd ky wd len jn cp stm fd fc ack N md ch sr hs st L pl)) {i : Nat} (hi : i < nd) (hm : md i = 0) (hj : jn = 6) (hu : md (ch (len - 1)) = 10) :
    (pi_P nd ky wd len i 0 0 (hs (ch (len - 1))) 0 ack N (cr_uN md i 1) ch sr hs st L pl) := by
  obtain ⟨hC, hK, hH, hL, hT⟩ := h
  have hi6 : i < 6 := by have := hC.2.1; omega
  have hl1 : 1 ≤ len := hC.2.2.2.2.2.2.1
  have hne : ∀ k, md k = 10 ∨ md k = 20 → cr_uN md i 1 k = md k := fun k hk => cr_uNn (fun z => by rw [z] at hk; omega)
  have hne' : ∀ k, cr_uN md i 1 k = 10 → md k = 10 := fun k hk => by
    by_cases z : k = i
    · rw [z, cr_uNs] at hk; omega
    · rw [cr_uNn z] at hk; exact hk
  refine ⟨hC, ⟨by omega, fun _ => cr_uNs, fun p hp => ?_, fun k hk => ?_⟩, ?_, hL, ?_⟩
  · obtain ⟨a, b, c⟩ := hK.2.2.1 p hp
    rw [hne _ b]
    exact ⟨a, b, c⟩
  · by_cases z : k = i
    · rw [z, cr_uNs]
      rcases kk_c hK hi6 with a | a | ⟨p, hp, e, a, b⟩
      · exact Or.inr (Or.inl ⟨rfl, a.2, rfl, hi⟩)
      · omega
      · omega
    · rw [cr_uNn z]
      rcases hK.2.2.2 k hk with a | a | a
      · exact Or.inl a
      · omega
      · exact Or.inr (Or.inr a)
  · obtain ⟨h1, h2, h3, h4, h5, h6, i0, hi0, hu0⟩ := hH
    refine ⟨h1, fun k hk => ?_, fun p q hpq hq up uq => h3 p q hpq hq (hne' _ up) (hne' _ uq), fun z => h4 (hne' _ z), fun k hk hu => h5 k hk (hne' _ hu), fun z => h6 (hne' _ z), i0, hi0, ?_⟩
    · obtain ⟨a, b, c, d⟩ := h2 k hk
      refine ⟨a, b, c, fun z => d (fun y => z ?_)⟩
      rw [hne _ (Or.inl y)]
      exact y
    · rw [hne _ (Or.inl hu0)]
      exact hu0
  · have e200 := (hh_200 hH (kk_lt hK hC (p := len - 1) (by omega))).2.1
    exact ⟨e200, by omega, by omega, fun _ => rfl, fun _ _ => ⟨by omega, by omega, fun i hi => absurd hi (Nat.not_lt_zero i)⟩, fun _ => ⟨rfl, rfl⟩⟩
theorem pq_copy (h : (pi_P nd ky wd len jn cp stm fd fc ack N md ch sr hs st L pl)) (hj : jn < 6) (hu : md (ch (len - 1)) = 10) (hc : cp < ky + 4) :
    (pi_P nd ky wd len jn (cp + 1) (stm + 1) fd fc ack N md ch sr hs (cr_uN st cp (sr (ch (len - 1)))) L pl) := by
  obtain ⟨hC, hK, hH, hL, hT⟩ := h
  refine ⟨hC, hK, hH, hL, ?_⟩
  obtain ⟨h1, h2, h3, h4, h5, h6⟩ := hT
  have e := h4 hj
  have et := hH.2.2.2.1 hu
  obtain ⟨a, b, c⟩ := h5 hj hu
  refine ⟨h1, by omega, by omega, fun _ => by omega, fun _ _ => ⟨a, b, fun i hi => ?_⟩, fun z => ?_⟩
  · by_cases y : i = cp
    · rw [y, cr_uNs]; omega
    · rw [cr_uNn y]; exact c i (by omega)
  · rcases z with z | z
    · omega
    · exact absurd hu z
theorem pq_absorb (h : (pi_P nd ky wd len jn cp stm fd fc ack N md ch sr hs st L pl)) (hj : jn < 6) (hu : md (ch (len - 1)) = 10) (hc : 0 < fc) : (pi_P nd ky wd len jn cp stm (fd + 1) (fc - 1) ack N md ch sr hs st L pl) := by
  obtain ⟨hC, hK, hH, hL, hT⟩ := h
  refine ⟨hC, hK, hH, hL, ?_⟩
  have hl1 : 1 ≤ len := hC.2.2.2.2.2.2.1
  have e200 := (hh_200 hH (kk_lt hK hC (p := len - 1) (by omega))).2.1
  obtain ⟨h1, h2, h3, h4, h5, h6⟩ := hT
  obtain ⟨a, b, c⟩ := h5 hj hu
  refine ⟨by omega, h2, h3, h4, fun _ _ => ⟨by omega, by omega, c⟩, fun z => ?_⟩
  rcases z with z | z
  · omega
  · exact absurd hu z
theorem pq_pig : ∀ (n : Nat) (f : Nat → Nat), (∀ p, p < n + 1 → f p < n) → ∃ p q, p < q ∧ q < n + 1 ∧ f p = f q := by
  intro n
  induction n with
  | zero =>
    intro f h
    exact absurd (h 0 (by omega)) (Nat.not_lt_zero _)
  | succ n ih =>
    intro f h
    by_cases z : ∃ p, p < n + 1 ∧ f p = f (n + 1)
    · obtain ⟨p, hp, e⟩ := z
      exact ⟨p, n + 1, hp, by omega, e⟩
    · have z' : ∀ p, p < n + 1 → f p ≠ f (n + 1) := fun p hp e => z ⟨p, hp, e⟩
      have hl := h (n + 1) (by omega)
      obtain ⟨p, q, hpq, hq, e⟩ := ih (fun p => if f p = n then f (n + 1) else f p) (fun p hp => by
        have h1 := h p (by omega)
        have h2 := z' p hp
        split <;> omega)
      have hp' := z' p (by omega)
      have hq' := z' q hq
      refine ⟨p, q, hpq, by omega, ?_⟩
      split at e
      · split at e
        · omega
        · omega
      · split at e
        · omega
        · exact e
theorem pq_room (hC : (pi_C nd ky wd len)) (hK : (pi_K nd len jn md ch pl)) (hj : jn < 6) : len + 1 ≤ nd := by
  obtain ⟨c1, c2, c3, c4, c5, c6, c7, c8⟩ := hC
  have hC : (pi_C nd ky wd len) := ⟨c1, c2, c3, c4, c5, c6, c7, c8⟩
  have hjd := kk_jnd hK hj
  have hm := hK.2.1 hj
  rcases Decidable.em (len + 1 ≤ nd) with h | h
  · exact h
  · have e : len = nd := by omega
    obtain ⟨p, q, hpq, hq, ef⟩ := pq_pig nd (fun p => if p < len then ch p else jn) (fun p hp => by
      split
      · rename_i z
        exact (hK.2.2.1 p z).1
      · exact hjd)
    rw [if_pos (by omega)] at ef
    split at ef
    · rename_i z
      have := kk_inj hK hC (by omega) z ef
      omega
    · have := kk_up hK (p := p) (by omega)
      rw [ef] at this
      omega
theorem pq_promote (h : (pi_P nd ky wd len jn cp stm fd fc ack N md ch sr hs st L pl)) (hj : jn < 6) (hu : md (ch (len - 1)) = 10) (hc : cp = ky + 4) (hf : fc = 0) :
    (pi_P nd ky wd (len + 1) 6 0 stm fd 0 (pi_sa ack (cr_uN md jn 10) (cr_uN ch len jn) (cr_uN sr jn (hs (ch (len - 1))))) N (cr_uN md jn 10) (cr_uN ch len jn) (cr_uN sr jn (hs (ch (len - 1)))) (cr_uN hs jn (hs (ch (len - 1)))) st L (upd pl jn (nI len))) := by
  obtain ⟨hC, hK, hH, hL, hT⟩ := h
  have hr := pq_room hC hK hj
  have hm1 := hK.2.1 hj
  have hjd := kk_jnd hK hj
  have hl1 : 1 ≤ len := hC.2.2.2.2.2.2.1
  have t6 := kk_lt hK hC (p := len - 1) (by omega)
  have hC' : (pi_C nd ky wd (len + 1)) := by
    obtain ⟨c1, c2, c3, c4, c5, c6, c7, c8⟩ := hC
    exact ⟨c1, c2, c3, c4, c5, c6, by omega, by omega⟩
  have hcj : ∀ p, p < len → ch p ≠ jn := fun p hp z => by
    have := kk_up hK hp
    rw [z] at this
    omega
  have eo : ∀ p, p < len → cr_uN ch len jn p = ch p := fun p hp => cr_uNn (by omega)
  have hK' : (pi_K nd (len + 1) 6 (cr_uN md jn 10) (cr_uN ch len jn) (upd pl jn (nI len))) := by
    refine ⟨Nat.le_refl 6, fun z => by omega, fun p hp => ?_, fun i hi => ?_⟩
    · by_cases z : p = len
      · rw [z, cr_uNs, cr_uNs, pk_us]
        exact ⟨hjd, Or.inl rfl, rfl⟩
      · rw [eo p (by omega), cr_uNn (hcj p (by omega)), pk_un (hcj p (by omega))]
        exact hK.2.2.1 p (by omega)
    · by_cases z : i = jn
      · exact Or.inr (Or.inr ⟨len, by omega, by rw [z, cr_uNs]⟩)
      · rw [cr_uNn z, pk_un z]
        rcases hK.2.2.2 i hi with a | a | ⟨p, hp, e⟩
        · exact Or.inl a
        · exact absurd a.2.2.1 z
        · exact Or.inr (Or.inr ⟨p, by omega, by rw [eo p hp]; exact e⟩)
  refine ⟨hC', hK', ?_, hL, ?_⟩
  · obtain ⟨h1, h2, h3, h4, h5, h6, i0, hi0, hu0⟩ := hH
    have et := h4 hu
    have pr : ∀ a b, a < b → b < len + 1 → cr_uN md jn 10 (cr_uN ch len jn a) = 10 → cr_uN md jn 10 (cr_uN ch len jn b) = 10 → cr_uN hs jn (hs (ch (len - 1))) (cr_uN ch len jn b) ≤ cr_uN hs jn (hs (ch (len - 1))) (cr_uN ch len jn a) ∧ cr_uN sr jn (hs (ch (len - 1))) (cr_uN ch len jn a) ≤ cr_uN sr jn (hs (ch (len - 1))) (cr_uN ch len jn b) := by
      intro a b hab hb ua ub
      have na := hcj a (by omega)
      rw [eo a (by omega), cr_uNn na] at ua
      rw [eo a (by omega), cr_uNn na, cr_uNn na]
      by_cases z : b = len
      · rw [z, cr_uNs, cr_uNs, cr_uNs]
        by_cases y : a = len - 1
        · rw [y]; omega
        · have := h3 a (len - 1) (by omega) (by omega) ua hu
          omega
      · have nb := hcj b (by omega)
        rw [eo b (by omega), cr_uNn nb] at ub
        rw [eo b (by omega), cr_uNn nb, cr_uNn nb]
        exact h3 a b hab (by omega) ua ub
    obtain ⟨k1, k2⟩ := sa_ok (ack := ack) hC' hK' (fun a b hab hb ua ub => (pr a b hab hb ua ub).2) (fun i hi hu' => by
      by_cases z : i = jn
      · rw [z, cr_uNs]
        have := h5 _ t6 hu
        omega
      · rw [cr_uNn z] at hu' ⊢
        exact h5 i hi hu')
    refine ⟨h1, fun i hi => ?_, pr, fun z => ?_, k1, k2, i0, hi0, ?_⟩
    · obtain ⟨a, b, c, d⟩ := h2 i hi
      by_cases y : i = jn
      · rw [y, cr_uNs, cr_uNs, cr_uNs]
        have := (h2 _ t6).2.1
        exact ⟨Nat.le_refl _, this, by omega, fun z => absurd rfl z⟩
      · rw [cr_uNn y, cr_uNn y, cr_uNn y]
        exact ⟨a, b, c, d⟩
    · rw [show len + 1 - 1 = len by omega, cr_uNs, cr_uNs, cr_uNs]
    · rw [cr_uNn (fun z => by rw [z] at hu0; omega)]
      exact hu0
  · obtain ⟨h1, h2, h3, h4, h5, h6⟩ := hT
    exact ⟨h1, by omega, h3, fun z => by omega, fun z => by omega, fun _ => ⟨rfl, rfl⟩⟩
end
end
section
section
variable {nd ky wd len jn cp stm fd fc ack N : Nat} {md ch sr hs st : Nat → Nat} {lr : Int32} {L : Nat → cr_E} {pl va rq rs fi sz uc ur uk uv uo aq ar wk : Nat → Int32}
variable {po : Int32 → Prop} {ps : SX → Prop} {pr : Int32 → SX → Prop}
theorem nf_at {f : Nat → Nat} {i : Nat} (hi : i < 2 ^ 31) : cr_nF f (nI i).toNatClampNeg = nI (f i) := by
  rw [nI_clamp hi]
  rfl
theorem nf_t {f : Nat → Nat} {i k : Nat} (h : f i = k) (hi : i < 2 ^ 31) : cr_nF f (nI i).toNatClampNeg = nI k := by
  rw [nf_at hi, h]
theorem nf_f {f : Nat → Nat} {i k : Nat} (h : f i ≠ k) (hi : i < 2 ^ 31) (hf : f i < 2 ^ 31) (hk : k < 2 ^ 31) : ¬ cr_nF f (nI i).toNatClampNeg = nI k := by
  rw [nf_at hi, nI_eq hf hk]
  exact h
theorem sub_1 (x : Int32) : x + (-1) = x - 1 := (Int32.sub_eq_add_neg x 1).symm
theorem n_pred {n : Nat} (h : 0 < n) : nI n - 1 = nI (n - 1) := by
  obtain ⟨m, rfl⟩ : ∃ m, n = m + 1 := ⟨n - 1, by omega⟩
  exact nI_pred m
theorem n_m4 (r c : Nat) : nI r * 4 + nI c = nI (r * 4 + c) := by
  show nI r * nI 4 + nI c = _
  rw [pk_mul, nI_add]
theorem n_m8 (r c : Nat) : nI r * 8 + nI c = nI (r * 8 + c) := by
  show nI r * nI 8 + nI c = _
  rw [pk_mul, nI_add]
theorem ji_lt {j : Nat} (h : j < 6) : cr_jI j = nI j := if_pos h
theorem ji_6 : cr_jI 6 = -1 := if_neg (by omega)
theorem ji_neg {j : Nat} (h : j ≤ 6) : cr_jI j < 0 ↔ j = 6 := by
  by_cases z : j < 6
  · rw [ji_lt z]
    constructor
    · intro y; exact absurd y (nI_pos (by omega))
    · intro y; omega
  · have : j = 6 := by omega
    subst this
    rw [ji_6]
    exact ⟨fun _ => rfl, fun _ => by decide⟩
theorem ji_nn {j : Nat} (h : j ≤ 6) : 0 ≤ cr_jI j ↔ j < 6 := by
  by_cases z : j < 6
  · rw [ji_lt z]
    exact ⟨fun _ => z, fun _ => nI_pos' (by omega)⟩
  · have : j = 6 := by omega
    subst this
    rw [ji_6]
    exact ⟨fun y => absurd y (by decide), fun y => by omega⟩
theorem xw_isNode_f {v : Int32} (h : v < 0 ∨ nI nd ≤ v) (hp : po 0) : wpX_isNode po (cr_xs nd ky wd len jn cp lr md pl ch sr va rq rs fi sz uc ur uk uv uo st aq ar) v := by
  by_cases z : v < 0
  · exact br_t z hp
  · exact br_f z (br_t (h.resolve_left z) hp)
theorem xw_isNode_t {i : Nat} (hi : i < nd) (hn : nd ≤ 6) (hp : po 1) : wpX_isNode po (cr_xs nd ky wd len jn cp lr md pl ch sr va rq rs fi sz uc ur uk uv uo st aq ar) (nI i) :=
  br_f (nI_pos (by omega)) (br_f (nI_ge hi (by omega)) hp)
theorem xw_isKey_f {v : Int32} (h : v < 0 ∨ nI ky ≤ v) (hp : po 0) : wpX_isKey po (cr_xs nd ky wd len jn cp lr md pl ch sr va rq rs fi sz uc ur uk uv uo st aq ar) v := by
  by_cases z : v < 0
  · exact br_t z hp
  · exact br_f z (br_t (h.resolve_left z) hp)
theorem xw_isKey_t {i : Nat} (hi : i < ky) (hn : ky ≤ 8) (hp : po 1) : wpX_isKey po (cr_xs nd ky wd len jn cp lr md pl ch sr va rq rs fi sz uc ur uk uv uo st aq ar) (nI i) :=
  br_f (nI_pos (by omega)) (br_f (nI_ge hi (by omega)) hp)
theorem xw_isClient_f {v : Int32} (h : v < 0 ∨ nI 4 ≤ v) (hp : po 0) : wpX_isClient po (cr_xs nd ky wd len jn cp lr md pl ch sr va rq rs fi sz uc ur uk uv uo st aq ar) v := by
  by_cases z : v < 0
  · exact br_t z hp
  · exact br_f z (br_t (h.resolve_left z) hp)
theorem xw_isClient_t {i : Nat} (hi : i < 4) (hp : po 1) : wpX_isClient po (cr_xs nd ky wd len jn cp lr md pl ch sr va rq rs fi sz uc ur uk uv uo st aq ar) (nI i) :=
  br_f (nI_pos (by omega)) (br_f (nI_ge (b := 4) hi (by decide)) hp)
theorem slot_e {r f i : Nat} (hr : r < 7) (hf : f < 8) (hi : i < 2 ^ 20) (e : fi r = nI f) : nI r * 8 + ((fi (nI r).toNatClampNeg + nI i) &&& 7) = nI (r * 8 + (f + i) % 8) := by
  rw [nI_clamp (by omega), e, nI_add, pk_andN (by omega) 3 (by decide), n_m8]
theorem xw_slot {r f i : Nat} (hr : r < 7) (hf : f < 8) (hi : i < 2 ^ 20) (e : fi r = nI f) (hp : po (nI (r * 8 + (f + i) % 8))) : wpX_slot po (cr_xs nd ky wd len jn cp lr md pl ch sr va rq rs fi sz uc ur uk uv uo st aq ar) (nI r) (nI i) := by
  refine And.intro (vp_in_nI hr (by decide)) ?_
  rw [slot_e hr hf hi e]
  exact hp
theorem xw_reach {r : Nat} (h : (cr_D L ky jn cp fd fc sr hs st va rq rs fi sz uc ur uk uv uo)) (hr : r < 6) (hj : r ≠ jn) (hp : po (nI (hs r))) : wpX_reach po (cr_xs nd ky wd len jn cp lr md pl ch sr va rq rs fi sz uc ur uk uv uo st aq ar) (nI r) := by
  obtain ⟨hle, hS, g1, g2, _⟩ := h.1 r hr hj
  refine And.intro (vp_in_nI hr (by decide)) (And.intro (vp_in_nI (by omega) (by decide)) ?_)
  rw [nf_at (by omega), nI_clamp (by omega), g2, nI_add, show sr r + (hs r - sr r) = hs r by omega]
  exact hp
theorem xw_isTail {r p : Nat} (hr : r < 6) (hp : pl r = nI p) (hpl : p < 6) (hl : 0 < len) (hl6 : len ≤ 6) (ht : p = len - 1 → po 1) (hf : p ≠ len - 1 → po 0) : wpX_isTail po (cr_xs nd ky wd len jn cp lr md pl ch sr va rq rs fi sz uc ur uk uv uo st aq ar) (nI r) := by
  refine And.intro (vp_in_nI hr (by decide)) ?_
  rw [nI_clamp (by omega), hp, n_pred hl]
  exact pk_eq p (len - 1) ht hf
theorem xw_tailIsUp (hC : (pi_C nd ky wd len)) (hK : (pi_K nd len jn md ch pl)) (ht : md (ch (len - 1)) = 10 → po 1) (hf : md (ch (len - 1)) ≠ 10 → po 0) : wpX_tailIsUp po (cr_xs nd ky wd len jn cp lr md pl ch sr va rq rs fi sz uc ur uk uv uo st aq ar) := by
  have hl1 : 1 ≤ len := hC.2.2.2.2.2.2.1
  have hl2 : len ≤ nd := hC.2.2.2.2.2.2.2
  have hn6 : nd ≤ 6 := hC.2.1
  have t6 := kk_lt hK hC (p := len - 1) (by omega)
  have hm := kk_mlt hK t6
  have e1 : cr_nF ch (nI len - 1).toNatClampNeg = nI (ch (len - 1)) := by rw [n_pred hl1, nf_at (by omega)]
  refine And.intro (by rw [n_pred hl1]; exact vp_in_nI (by omega) (by decide)) (And.intro (by rw [e1]; exact vp_in_nI t6 (by decide)) ?_)
  rw [e1, nf_at (by omega)]
  exact pk_eq (md (ch (len - 1))) 10 ht hf
theorem xw_full (hj : jn ≤ 6) (hw : wd ≤ 8) (hz : sz 6 = nI fc) (hc : fc ≤ 8) (h0 : jn = 6 ∨ fc < wd → po 0) (h1 : jn < 6 → wd ≤ fc → po 1) : wpX_feedIsFull po (cr_xs nd ky wd len jn cp lr md pl ch sr va rq rs fi sz uc ur uk uv uo st aq ar) := by
  by_cases z : jn = 6
  · exact br_t ((ji_neg hj).mpr z) (h0 (Or.inl z))
  · refine br_f (fun y => z ((ji_neg hj).mp y)) ?_
    rw [hz]
    exact pk_lt fc wd (fun y => h0 (Or.inr y)) (fun y => h1 (by omega) y)
/-! scans of a ring -/
theorem xl_req {r c f b m0 : Nat} (hr : r < 6) (hf : f < 8) (e : fi r = nI f) (hg : ∀ i, i < m0 → cr_at L uc ur uk uv uo (r * 8 + (f + i) % 8) (b + i)) (hw : ∀ i, i < m0 → cr_wh L (b + i) < 4)
    (hc : c < 4) (hq : rq (r * 4 + c) = cr_Q L b c) (hm0 : m0 ≤ 8) : ∀ m, m ≤ m0 → po (cr_Q L (b + m) c) → wX_requestAfter_5 po (nI r) (nI c) (nI nd) (nI ky) (nI wd) 6 (nI len) (cr_jI jn) (nI cp) lr (cr_nF md) pl (cr_nF ch) (cr_nF sr) va rq rs fi sz uc ur uk uv uo (cr_nF st) aq ar (m + 1) (nI m - 1) := by
  intro m
  induction m with
  | zero =>
    intro _ hp
    refine br_t (by decide) (And.intro ?_ ?_)
    · rw [n_m4]; exact vp_in_nI (by omega) (by decide)
    · rw [n_m4, nI_clamp (by omega), hq]; exact hp
  | succ m ih =>
    intro hm hp
    rw [nI_pred]
    obtain ⟨a1, a2, a3, a4, a5⟩ := hg m (by omega)
    have hwm := hw m (by omega)
    refine br_f (nI_pos (by omega)) ?_
    refine xw_slot (by omega) hf (by omega) e ?_
    have eu : uc (nI (r * 8 + (f + m) % 8)).toNatClampNeg = nI (cr_wh L (b + m)) := by rw [nI_clamp (by omega)]; exact a1
    refine And.intro (vp_in_nI (by omega) (by decide)) ?_
    by_cases z : cr_wh L (b + m) = c
    · refine br_t (by rw [eu, z]) (And.intro (vp_in_nI (by omega) (by decide)) ?_)
      rw [nI_clamp (by omega), a2]
      have q : cr_Q L (b + (m + 1)) c = cr_nu L (b + m) := if_pos z
      rw [q] at hp
      exact hp
    · refine br_f (by rw [eu, nI_eq (by omega) (by omega)]; exact z) (nm_r (sub_1 _) (ih (by omega) ?_))
      have q : cr_Q L (b + (m + 1)) c = cr_Q L (b + m) c := if_neg z
      rw [q] at hp
      exact hp
theorem xw_request {r c m : Nat} (h : (cr_D L ky jn cp fd fc sr hs st va rq rs fi sz uc ur uk uv uo)) (hL : (pi_L ky N L)) (hr : r < 6) (hj : r ≠ jn) (hc : c < 4) (hm : m ≤ hs r - sr r) (hN : hs r ≤ N) (hp : po (cr_Q L (sr r + m) c)) : wpX_requestAfter po (cr_xs nd ky wd len jn cp lr md pl ch sr va rq rs fi sz uc ur uk uv uo st aq ar) (nI r) (nI c) (nI m) := by
  obtain ⟨hle, hS, g1, g2, f, hf, ef, hat⟩ := h.1 r hr hj
  exact nm_e ⟨m + 1, xl_req hr hf ef hat (fun i hi => (hL (sr r + i) (by omega)).1.2.1) hc (hS.2 c hc).1 g1 m hm hp⟩
theorem xw_touches {s n k : Nat} (ha : cr_at L uc ur uk uv uo s n) (w : cr_wf L ky n) (hky : ky ≤ 8) (hk : k < 8) (hs56 : s < 56)
    (ht : (cr_so L n = k ∨ cr_ta L n = k) → po 1) (hn : ¬ (cr_so L n = k ∨ cr_ta L n = k) → po 0) : wpX_touches po (cr_xs nd ky wd len jn cp lr md pl ch sr va rq rs fi sz uc ur uk uv uo st aq ar) (nI s) (nI k) := by
  have T := cr_touch w hky hk
  obtain ⟨a1, a2, a3, a4, a5⟩ := ha
  refine And.intro (vp_in_nI hs56 (by decide)) ?_
  rw [nI_clamp (by omega), a3, a5]
  by_cases z : nI (cr_ta L n) = nI k
  · exact br_t z (ht (T.mp (Or.inl z)))
  · refine br_f z (And.intro (vp_in_nI hs56 (by decide)) ?_)
    by_cases y : cr_ot L n = nI k
    · exact br_t y (ht (T.mp (Or.inr y)))
    · exact br_f y (hn (fun q => (T.mpr q).elim z y))
theorem xl_touch {r k f b m0 : Nat} (hr : r < 6) (hf : f < 8) (e : fi r = nI f) (hg : ∀ i, i < m0 → cr_at L uc ur uk uv uo (r * 8 + (f + i) % 8) (b + i)) (hw : ∀ i, i < m0 → cr_wf L ky (b + i))
    (hky : ky ≤ 8) (hk : k < 8) (hm0 : m0 ≤ 8) : ∀ m, m ≤ m0 → ((∀ i, i < m → ¬ (cr_so L (b + i) = k ∨ cr_ta L (b + i) = k)) → po (-1)) →
    (∀ i, i < m → (cr_so L (b + i) = k ∨ cr_ta L (b + i) = k) → (∀ j, i < j → j < m → ¬ (cr_so L (b + j) = k ∨ cr_ta L (b + j) = k)) → po (nI (r * 8 + (f + i) % 8))) →
    wX_newestTouch_5 po (nI r) (nI k) (nI nd) (nI ky) (nI wd) 6 (nI len) (cr_jI jn) (nI cp) lr (cr_nF md) pl (cr_nF ch) (cr_nF sr) va rq rs fi sz uc ur uk uv uo (cr_nF st) aq ar (m + 1) (nI m - 1) := by
  intro m
  induction m with
  | zero =>
    intro _ h1 h2
    exact br_t (by decide) (h1 (fun i hi => absurd hi (Nat.not_lt_zero i)))
  | succ m ih =>
    intro hm h1 h2
    rw [nI_pred]
    refine br_f (nI_pos (by omega)) ?_
    refine xw_slot (by omega) hf (by omega) e ?_
    refine xw_touches (hg m (by omega)) (hw m (by omega)) hky hk (by omega) (fun z => ?_) (fun z => ?_)
    · refine br_f (by decide) (h2 m (by omega) z (fun j x y => by omega))
    · refine br_t rfl (nm_r (sub_1 _) (ih (by omega) (fun y => h1 (fun i hi => ?_)) (fun i hi hi' hi'' => h2 i (by omega) hi' (fun j x y => ?_))))
      · by_cases q : i = m
        · rw [q]; exact z
        · exact y i (by omega)
      · by_cases q : j = m
        · rw [q]; exact z
        · exact hi'' j x (by omega)
theorem xw_newest {r k m : Nat} (h : (cr_D L ky jn cp fd fc sr hs st va rq rs fi sz uc ur uk uv uo)) (hL : (pi_L ky N L)) (hr : r < 6) (hj : r ≠ jn) (hky : ky ≤ 8) (hk : k < ky) (hm : m ≤ hs r - sr r) (hN : hs r ≤ N)
    (h1 : (∀ i, i < m → ¬ (cr_so L (sr r + i) = k ∨ cr_ta L (sr r + i) = k)) → po (-1))
    (h2 : ∀ s i, s < 56 → i < m → cr_at L uc ur uk uv uo s (sr r + i) → (cr_so L (sr r + i) = k ∨ cr_ta L (sr r + i) = k) → (∀ j, i < j → j < m → ¬ (cr_so L (sr r + j) = k ∨ cr_ta L (sr r + j) = k)) → po (nI s)) :
    wpX_newestTouch po (cr_xs nd ky wd len jn cp lr md pl ch sr va rq rs fi sz uc ur uk uv uo st aq ar) (nI r) (nI k) (nI m) := by
  obtain ⟨hle, hS, g1, g2, f, hf, ef, hat⟩ := h.1 r hr hj
  exact nm_e ⟨m + 1, xl_touch hr hf ef hat (fun i hi => (hL (sr r + i) (by omega)).1) hky (by omega) g1 m hm h1 (fun i hi a b => h2 _ i (by omega) hi (hat i (by omega)) a b)⟩
theorem xw_value {r k m : Nat} (h : (cr_D L ky jn cp fd fc sr hs st va rq rs fi sz uc ur uk uv uo)) (hL : (pi_L ky N L)) (hr : r < 6) (hj : r ≠ jn) (hky : ky ≤ 8) (hk : k < ky) (hm : m ≤ hs r - sr r) (hN : hs r ≤ N) (hp : po (cr_W L (sr r + m) k)) : wpX_valueAfter po (cr_xs nd ky wd len jn cp lr md pl ch sr va rq rs fi sz uc ur uk uv uo st aq ar) (nI r) (nI k) (nI m) := by
  refine xw_newest h hL hr hj hky hk hm hN (fun z => ?_) (fun s i hs56 hi ha ht hn => ?_)
  · refine br_f (by decide) (And.intro ?_ ?_)
    · rw [n_m8]; exact vp_in_nI (by omega) (by decide)
    · rw [n_m8, nI_clamp (by omega), (h.1 r hr hj).2.1.1 k hk, ← cr_W_un m z]
      exact hp
  · have w := (hL (sr r + i) (by omega)).1
    rw [cr_W_last w hi ht hn] at hp
    obtain ⟨a1, a2, a3, a4, a5⟩ := ha
    have w4 : cr_ta L (sr r + i) < ky := w.2.2.2.1
    refine br_t (nI_pos' (by omega)) (And.intro (vp_in_nI hs56 (by decide)) ?_)
    rw [nI_clamp (by omega), a3, a4]
    by_cases z : cr_ta L (sr r + i) = k
    · rw [if_pos z] at hp
      exact br_t (by rw [z]) (And.intro (vp_in_nI hs56 (by decide)) hp)
    · rw [if_neg z] at hp
      exact br_f (by rw [nI_eq (by omega) (by omega)]; exact z) hp
theorem xl_dirty {r k f b m0 : Nat} (hr : r < 6) (hf : f < 8) (e : fi r = nI f) (hg : ∀ i, i < m0 → cr_at L uc ur uk uv uo (r * 8 + (f + i) % 8) (b + i)) (hw : ∀ i, i < m0 → cr_wf L ky (b + i))
    (hky : ky ≤ 8) (hk : k < 8) (hm0 : m0 ≤ 8) (hp : po (nI (cr_tc L k b m0))) : ∀ d j, j + d = m0 → wX_dirty_43 po (nI r) (nI k) (nI m0) (nI nd) (nI ky) (nI wd) 6 (nI len) (cr_jI jn) (nI cp) lr (cr_nF md) pl (cr_nF ch) (cr_nF sr) va rq rs fi sz uc ur uk uv uo (cr_nF st) aq ar (d + 1) (nI (cr_tc L k b j)) (nI j) := by
  intro d
  induction d with
  | zero =>
    intro j hj
    have : j = m0 := by omega
    subst this
    exact br_t (nI_le (Nat.le_refl j) (by omega)) hp
  | succ d ih =>
    intro j hj
    refine br_f (nI_ge (by omega) (by omega)) ?_
    refine xw_slot (by omega) hf (by omega) e ?_
    have I := ih (j + 1) (by omega)
    refine xw_touches (hg j (by omega)) (hw j (by omega)) hky hk (by omega) (fun z => ?_) (fun z => ?_)
    · have q : cr_tc L k b (j + 1) = cr_tc L k b j + 1 := by
        show cr_tc L k b j + _ = _
        rw [if_pos z]
      rw [q] at I
      exact br_f (by decide) (nm_r (nI_1 _) (nm_r (nI_1 _) I))
    · have q : cr_tc L k b (j + 1) = cr_tc L k b j := by
        show cr_tc L k b j + _ = _
        rw [if_neg z]
        rfl
      rw [q] at I
      exact br_t rfl (nm_r (nI_1 _) I)
end
end
section
section
variable {nd ky wd len jn cp stm fd fc ack N : Nat} {md ch sr hs st : Nat → Nat} {lr : Int32} {L : Nat → cr_E} {pl va rq rs fi sz uc ur uk uv uo aq ar wk : Nat → Int32}
variable {po : Int32 → Prop} {ps : SX → Prop} {pr : Int32 → SX → Prop}
theorem cr_uNN {f : Nat → Nat} {k x y : Nat} : cr_uN (cr_uN f k x) k y = cr_uN f k y := by
  funext j
  by_cases q : j = k
  · rw [q, cr_uNs, cr_uNs]
  · rw [cr_uNn q, cr_uNn q, cr_uNn q]
theorem up_c {a : Nat → Int32} {s : Nat} {x : Int32} (h : s < 2 ^ 31) : upd a (nI s).toNatClampNeg x = upd a s x := by rw [nI_clamp h]
theorem xw_append0 {r f c : Nat} {p1 p2 p3 p4 p5 : Int32} (hr : r < 7) (hf : f < 8) (e : fi r = nI f) (hz : sz r = nI c) (hc : c < 8)
    (hp : ps (cr_xs nd ky wd len jn cp lr md pl ch sr va rq rs fi (upd sz r (nI (c + 1))) (upd uc (r * 8 + (f + c) % 8) p1) (upd ur (r * 8 + (f + c) % 8) p2) (upd uk (r * 8 + (f + c) % 8) p3) (upd uv (r * 8 + (f + c) % 8) p4) (upd uo (r * 8 + (f + c) % 8) p5) st aq ar)) :
    wpX_append ps (cr_xs nd ky wd len jn cp lr md pl ch sr va rq rs fi sz uc ur uk uv uo st aq ar) (nI r) p1 p2 p3 p4 p5 := by
  have v7 : vp_in (nI r) 7 := vp_in_nI hr (by decide)
  have ez : sz (nI r).toNatClampNeg = nI c := by rw [nI_clamp (by omega)]; exact hz
  refine And.intro v7 ?_
  rw [ez]
  refine xw_slot hr hf (by omega) e ?_
  have v : vp_in (nI (r * 8 + (f + c) % 8)) 56 := vp_in_nI (by omega) (by decide)
  have hs31 : r * 8 + (f + c) % 8 < 2 ^ 31 := by omega
  have qz : upd sz (nI r).toNatClampNeg (nI c + 1) = upd sz r (nI (c + 1)) := by rw [nI_clamp (by omega), nI_1]
  exact And.intro v (nm_r (up_c hs31) (And.intro v (nm_r (up_c hs31) (And.intro v (nm_r (up_c hs31) (And.intro v (nm_r (up_c hs31) (And.intro v (nm_r (up_c hs31) (And.intro v7 (And.intro v7 (nm_r qz hp))))))))))))
theorem xw_appN {r : Nat} (h : (cr_D L ky jn cp fd fc sr hs st va rq rs fi sz uc ur uk uv uo)) (hr : r < 6) (hj : r ≠ jn) (hc : hs r - sr r < 8)
    (hp : ∀ sz' uc' ur' uk' uv' uo', (cr_D L ky jn cp fd fc sr (cr_uN hs r (hs r + 1)) st va rq rs fi sz' uc' ur' uk' uv' uo') → ps (cr_xs nd ky wd len jn cp lr md pl ch sr va rq rs fi sz' uc' ur' uk' uv' uo' st aq ar)) :
    wpX_append ps (cr_xs nd ky wd len jn cp lr md pl ch sr va rq rs fi sz uc ur uk uv uo st aq ar) (nI r) (nI (cr_wh L (hs r))) (cr_nu L (hs r)) (nI (cr_ta L (hs r))) (cr_vl L (hs r)) (cr_ot L (hs r)) := by
  obtain ⟨hle, hS, g1, g2, f, hf, ef, hat⟩ := h.1 r hr hj
  exact xw_append0 (by omega) hf ef g2 hc (hp _ _ _ _ _ _ (cd_app h hr hj hc hf ef rfl))
theorem xw_appF (h : (cr_D L ky jn cp fd fc sr hs st va rq rs fi sz uc ur uk uv uo)) (hc : fc < 8)
    (hp : ∀ sz' uc' ur' uk' uv' uo', (cr_D L ky jn cp fd (fc + 1) sr hs st va rq rs fi sz' uc' ur' uk' uv' uo') → ps (cr_xs nd ky wd len jn cp lr md pl ch sr va rq rs fi sz' uc' ur' uk' uv' uo' st aq ar)) :
    wpX_append ps (cr_xs nd ky wd len jn cp lr md pl ch sr va rq rs fi sz uc ur uk uv uo st aq ar) (nI 6) (nI (cr_wh L (fd + fc))) (cr_nu L (fd + fc)) (nI (cr_ta L (fd + fc))) (cr_vl L (fd + fc)) (cr_ot L (fd + fc)) := by
  obtain ⟨g1, g2, f, hf, ef, hat⟩ := h.2.2
  exact xw_append0 (by omega) hf ef g2 hc (hp _ _ _ _ _ _ (cd_appF h hc hf ef rfl))
theorem xw_fwd {t i n r : Nat} (h : (cr_D L ky jn cp fd fc sr hs st va rq rs fi sz uc ur uk uv uo)) (ht : t < 6) (htj : t ≠ jn) (hi : i < hs t - sr t) (en : sr t + i = n)
    (hp : wpX_append ps (cr_xs nd ky wd len jn cp lr md pl ch sr va rq rs fi sz uc ur uk uv uo st aq ar) (nI r) (nI (cr_wh L n)) (cr_nu L n) (nI (cr_ta L n)) (cr_vl L n) (cr_ot L n)) : wpX_forward ps (cr_xs nd ky wd len jn cp lr md pl ch sr va rq rs fi sz uc ur uk uv uo st aq ar) (nI t) (nI i) (nI r) := by
  obtain ⟨hle, hS, g1, g2, f, hf, ef, hat⟩ := h.1 t ht htj
  obtain ⟨a1, a2, a3, a4, a5⟩ := hat i hi
  rw [en] at a1 a2 a3 a4 a5
  unfold wpX_forward
  refine xw_slot (by omega) hf (by omega) ef ?_
  have v : vp_in (nI (t * 8 + (f + i) % 8)) 56 := vp_in_nI (by omega) (by decide)
  refine And.intro v (And.intro v (And.intro v (And.intro v (And.intro v ?_))))
  rw [nI_clamp (by omega), a1, a2, a3, a4, a5]
  exact hp
theorem xw_setL {r s n : Nat} (ha : cr_at L uc ur uk uv uo s n) (hw : cr_wh L n < 4) (hr : r < 6) (hs56 : s < 56)
    (hp : ps (cr_xs nd ky wd len jn cp lr md pl ch sr va (upd rq (r * 4 + cr_wh L n) (cr_nu L n)) (upd rs (r * 4 + cr_wh L n) (cr_vl L n)) fi sz uc ur uk uv uo st aq ar)) : wpX_setLatest ps (cr_xs nd ky wd len jn cp lr md pl ch sr va rq rs fi sz uc ur uk uv uo st aq ar) (nI r) (nI s) := by
  obtain ⟨a1, a2, a3, a4, a5⟩ := ha
  have v : vp_in (nI s) 56 := vp_in_nI hs56 (by decide)
  have v24 : vp_in (nI (r * 4 + cr_wh L n)) 24 := vp_in_nI (by omega) (by decide)
  have q0 : nI r * 4 + uc (nI s).toNatClampNeg = nI (r * 4 + cr_wh L n) := by rw [nI_clamp (by omega), a1, n_m4]
  have q1 : upd rq (nI (r * 4 + cr_wh L n)).toNatClampNeg (ur (nI s).toNatClampNeg) = upd rq (r * 4 + cr_wh L n) (cr_nu L n) := by rw [nI_clamp (by omega), nI_clamp (by omega), a2]
  have q2 : upd rs (nI (r * 4 + cr_wh L n)).toNatClampNeg (uv (nI s).toNatClampNeg) = upd rs (r * 4 + cr_wh L n) (cr_vl L n) := by rw [nI_clamp (by omega), nI_clamp (by omega), a4]
  exact And.intro v (nm_r q0 (And.intro v (And.intro v24 (nm_r q1 (And.intro v (And.intro v24 (nm_r q2 hp)))))))
theorem xw_drop {r f c : Nat} (hr : r < 7) (hf : f < 8) (e : fi r = nI f) (hz : sz r = nI (c + 1)) (hp : ps (cr_xs nd ky wd len jn cp lr md pl ch sr va rq rs (upd fi r (nI ((f + 1) % 8))) (upd sz r (nI c)) uc ur uk uv uo st aq ar)) : wpX_dropOldest ps (cr_xs nd ky wd len jn cp lr md pl ch sr va rq rs fi sz uc ur uk uv uo st aq ar) (nI r) := by
  have v : vp_in (nI r) 7 := vp_in_nI hr (by decide)
  have q1 : upd fi (nI r).toNatClampNeg ((fi (nI r).toNatClampNeg + 1) &&& 7) = upd fi r (nI ((f + 1) % 8)) := by rw [nI_clamp (by omega), e, nI_1, pk_andN (by omega) 3 (by decide)]
  have q2 : upd sz (nI r).toNatClampNeg (sz (nI r).toNatClampNeg - 1) = upd sz r (nI c) := by rw [nI_clamp (by omega), hz, nI_pred]
  exact And.intro v (And.intro v (nm_r q1 (And.intro v (And.intro v (nm_r q2 hp)))))
theorem xw_c55 {r s f c : Nat} (hr : r < 6) (ha : cr_at L uc ur uk uv uo s (sr r)) (hw : cr_wh L (sr r) < 4) (hs56 : s < 56) (hf : f < 8) (e : fi r = nI f) (hz : sz r = nI (c + 1))
    (hp : ps (cr_xs nd ky wd len jn cp lr md pl ch (cr_uN sr r (sr r + 1)) va (upd rq (r * 4 + cr_wh L (sr r)) (cr_nu L (sr r))) (upd rs (r * 4 + cr_wh L (sr r)) (cr_vl L (sr r))) (upd fi r (nI ((f + 1) % 8))) (upd sz r (nI c)) uc ur uk uv uo st aq ar)) :
    wX_commitOldest_55 ps (nI r) (nI s) (nI nd) (nI ky) (nI wd) 6 (nI len) (cr_jI jn) (nI cp) lr (cr_nF md) pl (cr_nF ch) (cr_nF sr) va rq rs fi sz uc ur uk uv uo (cr_nF st) aq ar := by
  unfold wX_commitOldest_55
  refine xw_setL ha hw hr hs56 ?_
  have v : vp_in (nI r) 6 := vp_in_nI hr (by decide)
  have q : upd (cr_nF sr) (nI r).toNatClampNeg (cr_nF sr (nI r).toNatClampNeg + 1) = cr_nF (cr_uN sr r (sr r + 1)) := by
    rw [nf_at (by omega), nI_clamp (by omega), nI_1, cr_upd]
  exact And.intro v (And.intro v (nm_r q (xw_drop (sr := cr_uN sr r (sr r + 1)) (by omega) hf e hz hp)))
theorem xw_commit {r : Nat} (h : (cr_D L ky jn cp fd fc sr hs st va rq rs fi sz uc ur uk uv uo)) (hL : (pi_L ky N L)) (hr : r < 6) (hj : r ≠ jn) (hky : ky ≤ 8) (hc : sr r < hs r) (hN : hs r ≤ N)
    (hp : ∀ va' rq' rs' fi' sz', (cr_D L ky jn cp fd fc (cr_uN sr r (sr r + 1)) hs st va' rq' rs' fi' sz' uc ur uk uv uo) → ps (cr_xs nd ky wd len jn cp lr md pl ch (cr_uN sr r (sr r + 1)) va' rq' rs' fi' sz' uc ur uk uv uo st aq ar)) : wpX_commitOldest ps (cr_xs nd ky wd len jn cp lr md pl ch sr va rq rs fi sz uc ur uk uv uo st aq ar) (nI r) := by
  obtain ⟨hle, hS, g1, g2, f, hf, ef, hat⟩ := h.1 r hr hj
  have w := (hL (sr r) (by omega)).1
  have w' := w
  obtain ⟨w1, w2, w3, w4, w5, w6, w7⟩ := w'
  have ha := hat 0 (by omega)
  have ha' := ha
  obtain ⟨a1, a2, a3, a4, a5⟩ := ha'
  unfold wpX_commitOldest
  refine xw_slot (i := 0) (by omega) hf (by omega) ef ?_
  have s56 : r * 8 + (f + 0) % 8 < 56 := by omega
  have v : vp_in (nI (r * 8 + (f + 0) % 8)) 56 := vp_in_nI s56 (by decide)
  have ez : sz r = nI (hs r - (sr r + 1) + 1) := by rw [g2, show hs r - (sr r + 1) + 1 = hs r - sr r by omega]
  have q1 : nI r * 8 + uk (nI (r * 8 + (f + 0) % 8)).toNatClampNeg = nI (r * 8 + cr_ta L (sr r)) := by rw [nI_clamp (by omega), a3, n_m8]; rfl
  have q2 : uv (nI (r * 8 + (f + 0) % 8)).toNatClampNeg = cr_vl L (sr r) := by rw [nI_clamp (by omega), a4]; rfl
  have q3 : uo (nI (r * 8 + (f + 0) % 8)).toNatClampNeg = cr_ot L (sr r) := by rw [nI_clamp (by omega), a5]; rfl
  refine And.intro v (And.intro v ?_)
  rw [q1, q2, q3]
  refine And.intro (vp_in_nI (by omega) (by decide)) (nm_r (e' := upd va (r * 8 + cr_ta L (sr r)) (cr_vl L (sr r))) (up_c (by omega)) (And.intro v ?_))
  rcases cr_ot_ge w hky with ⟨h1, h2, h3⟩ | ⟨h1, h2, h3, h4⟩
  · have q4 : nI r * 8 + cr_ot L (sr r) = nI (r * 8 + cr_so L (sr r)) := by rw [h2, n_m8]
    refine br_f h3 (And.intro v ?_)
    rw [q4]
    refine And.intro (vp_in_nI (by omega) (by decide)) (nm_r (e' := upd (upd va (r * 8 + cr_ta L (sr r)) (cr_vl L (sr r))) (r * 8 + cr_so L (sr r)) 0) (up_c (by omega)) ?_)
    refine xw_c55 hr ha w2 s56 hf ef ez (hp _ _ _ _ _ (cd_commit h hr hj hky hc w hf ef (fun k hk => ?_) (fun j k hjr hk => ?_)))
    · have h6 := w6 h1
      by_cases z : cr_ta L (sr r) = k
      · rw [if_pos z, pk_un (by omega), z]
        exact pk_us
      · rw [if_neg z]
        by_cases y : cr_so L (sr r) = k
        · rw [if_pos y, y]
          exact pk_us
        · rw [if_neg y, pk_un (by omega), pk_un (by omega)]
    · rw [pk_un (by omega), pk_un (by omega)]
  · refine br_t h3 ?_
    refine xw_c55 hr ha w2 s56 hf ef ez (hp _ _ _ _ _ (cd_commit h hr hj hky hc w hf ef (fun k hk => ?_) (fun j k hjr hk => ?_)))
    · by_cases z : cr_ta L (sr r) = k
      · rw [if_pos z, z]
        exact pk_us
      · rw [if_neg z, if_neg (by omega), pk_un (by omega)]
    · rw [pk_un (by omega)]
theorem xl_all {r m : Nat} (hL : (pi_L ky N L)) (hr : r < 6) (hj : r ≠ jn) (hky : ky ≤ 8) (hN : hs r ≤ N) (hm : m < 100) : ∀ (d i : Nat) (sr : Nat → Nat) (va rq rs fi sz : Nat → Int32), i + d = m → sr r + d = hs r → (cr_D L ky jn cp fd fc sr hs st va rq rs fi sz uc ur uk uv uo) →
    (∀ va' rq' rs' fi' sz', (cr_D L ky jn cp fd fc (cr_uN sr r (hs r)) hs st va' rq' rs' fi' sz' uc ur uk uv uo) → ps (cr_xs nd ky wd len jn cp lr md pl ch (cr_uN sr r (hs r)) va' rq' rs' fi' sz' uc ur uk uv uo st aq ar)) → wX_commitAll_9 ps (nI r) (nI m) (d + 1) (nI i) (nI nd) (nI ky) (nI wd) 6 (nI len) (cr_jI jn) (nI cp) lr (cr_nF md) pl (cr_nF ch) (cr_nF sr) va rq rs fi sz uc ur uk uv uo (cr_nF st) aq ar := by
  intro d
  induction d with
  | zero =>
    intro i sr va rq rs fi sz hi he h hp
    have e : cr_uN sr r (hs r) = sr := cr_uNid (by omega)
    rw [e] at hp
    exact br_t (nI_le (by omega) (by omega)) (hp _ _ _ _ _ h)
  | succ d ih =>
    intro i sr va rq rs fi sz hi he h hp
    refine br_f (nI_ge (by omega) (by omega)) ?_
    refine xw_commit h hL hr hj hky (by omega) hN (fun va' rq' rs' fi' sz' h' => ?_)
    refine nm_r (nI_1 _) ?_
    refine ih (i + 1) (cr_uN sr r (sr r + 1)) va' rq' rs' fi' sz' (by omega) (by rw [cr_uNs]; omega) h' ?_
    rw [cr_uNN]
    exact hp
theorem xw_all {r : Nat} (h : (cr_D L ky jn cp fd fc sr hs st va rq rs fi sz uc ur uk uv uo)) (hL : (pi_L ky N L)) (hr : r < 6) (hj : r ≠ jn) (hky : ky ≤ 8) (hN : hs r ≤ N)
    (hp : ∀ va' rq' rs' fi' sz', (cr_D L ky jn cp fd fc (cr_uN sr r (hs r)) hs st va' rq' rs' fi' sz' uc ur uk uv uo) → ps (cr_xs nd ky wd len jn cp lr md pl ch (cr_uN sr r (hs r)) va' rq' rs' fi' sz' uc ur uk uv uo st aq ar)) : wpX_commitAll ps (cr_xs nd ky wd len jn cp lr md pl ch sr va rq rs fi sz uc ur uk uv uo st aq ar) (nI r) := by
  obtain ⟨hle, hS, g1, g2, _⟩ := h.1 r hr hj
  refine And.intro (vp_in_nI (by omega) (by decide)) (nm_r (e' := nI (hs r - sr r)) (by rw [nI_clamp (by omega)]; exact g2) ?_)
  exact ⟨hs r - sr r + 1, xl_all (m := hs r - sr r) hL hr hj hky hN (by omega) (hs r - sr r) 0 sr va rq rs fi sz (by omega) (by omega) h hp⟩
theorem xw_after {r p : Nat} (hC : (pi_C nd ky wd len)) (hK : (pi_K nd len jn md ch pl)) (hL : (pi_L ky N L)) (h : (cr_D L ky jn cp fd fc sr hs st va rq rs fi sz uc ur uk uv uo)) (hp : p < len) (er : ch p = r) (hN : hs r ≤ N) (hc : sr r < hs r)
    (hn : p ≠ len - 1 → ps (cr_xs nd ky wd len jn cp lr md pl ch sr va rq rs fi sz uc ur uk uv uo st aq ar))
    (hf : p = len - 1 → jn < 6 → fc < 8 ∧ fd + fc + 1 = hs r)
    (ht : p = len - 1 → ∀ fc' va' rq' rs' fi' sz' uc' ur' uk' uv' uo', (jn = 6 → fc' = fc) → (jn < 6 → fc' = fc + 1) → (cr_D L ky jn cp fd fc' (cr_uN sr r (hs r)) hs st va' rq' rs' fi' sz' uc' ur' uk' uv' uo') → ps (cr_xs nd ky wd len jn cp lr md pl ch (cr_uN sr r (hs r)) va' rq' rs' fi' sz' uc' ur' uk' uv' uo' st aq ar)) :
    wpX_afterAppend ps (cr_xs nd ky wd len jn cp lr md pl ch sr va rq rs fi sz uc ur uk uv uo st aq ar) (nI r) := by
  subst er
  have hr := kk_lt hK hC hp
  have hl1 : 1 ≤ len := hC.2.2.2.2.2.2.1
  have hl2 : len ≤ nd := hC.2.2.2.2.2.2.2
  have hn6 : nd ≤ 6 := hC.2.1
  have hky : ky ≤ 8 := hC.2.2.2.1
  have hjn := hK.1
  have hj : ch p ≠ jn := fun z => by
    have h1 := kk_up hK hp
    have h2 := hK.2.1 (by omega)
    rw [z] at h1
    omega
  obtain ⟨hle, hS, g1, g2, _⟩ := h.1 (ch p) hr hj
  unfold wpX_afterAppend
  refine xw_isTail hr (kk_pl hK hp) (by omega) hl1 (by omega) (fun z => ?_) (fun z => br_t rfl (hn z))
  refine br_f (by decide) ?_
  by_cases y : jn = 6
  · refine br_t ((ji_neg hjn).mpr y) ?_
    unfold wX_afterAppend_31
    exact xw_all h hL hr hj hky hN (fun va' rq' rs' fi' sz' h' => ht z fc va' rq' rs' fi' sz' uc ur uk uv uo (fun _ => rfl) (fun q => by omega) h')
  · refine br_f (fun q => y ((ji_neg hjn).mp q)) (And.intro (vp_in_nI (by omega) (by decide)) ?_)
    obtain ⟨f1, f2⟩ := hf z (by omega)
    have ei : sz (nI (ch p)).toNatClampNeg - 1 = nI (hs (ch p) - sr (ch p) - 1) := by rw [nI_clamp (by omega), g2, n_pred (by omega)]
    rw [ei]
    refine xw_fwd (r := 6) h hr hj (by omega) (n := fd + fc) (by omega) ?_
    refine xw_appF h f1 (fun sz' uc' ur' uk' uv' uo' h' => ?_)
    show wX_afterAppend_31 ps (nI (ch p)) (nI nd) (nI ky) (nI wd) 6 (nI len) (cr_jI jn) (nI cp) lr (cr_nF md) pl (cr_nF ch) (cr_nF sr) va rq rs fi sz' uc' ur' uk' uv' uo' (cr_nF st) aq ar
    unfold wX_afterAppend_31
    exact xw_all h' hL hr hj hky hN (fun va' rq' rs' fi' sz'' h'' => ht z (fc + 1) va' rq' rs' fi' sz'' uc' ur' uk' uv' uo' (fun q => by omega) (fun _ => rfl) h'')
theorem xl_pub {r : Nat} (hr : r < 6) (hp : ∀ aq' ar', (∀ c, c < 4 → aq' c = rq (r * 4 + c) ∧ ar' c = rs (r * 4 + c)) → ps (cr_xs nd ky wd len jn cp lr md pl ch sr va rq rs fi sz uc ur uk uv uo st aq' ar')) : ∀ (d i : Nat) (aq ar : Nat → Int32), i + d = 4 → (∀ c, c < i → aq c = rq (r * 4 + c) ∧ ar c = rs (r * 4 + c)) → wX_publish_21 ps (nI r) (nI nd) (nI ky) (nI wd) 6 (nI len) (cr_jI jn) (nI cp) lr (d + 1) (nI i) (cr_nF md) pl (cr_nF ch) (cr_nF sr) va rq rs fi sz uc ur uk uv uo (cr_nF st) aq ar := by
  intro d
  induction d with
  | zero =>
    intro i aq ar hi h
    exact br_t (nI_le (a := 4) (by omega) (by omega)) (hp aq ar (fun c hc => h c (by omega)))
  | succ d ih =>
    intro i aq ar hi h
    have v : vp_in (nI r * 4 + nI i) 24 := by rw [n_m4]; exact vp_in_nI (by omega) (by decide)
    have v4 : vp_in (nI i) 4 := vp_in_nI (by omega) (by decide)
    have q1 : upd aq (nI i).toNatClampNeg (rq (nI r * 4 + nI i).toNatClampNeg) = upd aq i (rq (r * 4 + i)) := by rw [n_m4, nI_clamp (by omega), nI_clamp (by omega)]
    have q2 : upd ar (nI i).toNatClampNeg (rs (nI r * 4 + nI i).toNatClampNeg) = upd ar i (rs (r * 4 + i)) := by rw [n_m4, nI_clamp (by omega), nI_clamp (by omega)]
    refine br_f (nI_ge (b := 4) (by omega) (by omega)) (And.intro v (And.intro v4 (nm_r q1 (And.intro v (And.intro v4 (nm_r q2 (nm_r (nI_1 _) ?_)))))))
    refine ih (i + 1) _ _ (by omega) (fun c hc => ?_)
    by_cases z : c = i
    · subst z
      exact ⟨pk_us, pk_us⟩
    · rw [pk_un z, pk_un z]
      exact h c (by omega)
theorem xw_publish (hC : (pi_C nd ky wd len)) (hK : (pi_K nd len jn md ch pl)) (h : (cr_D L ky jn cp fd fc sr hs st va rq rs fi sz uc ur uk uv uo)) (hA : (cr_AK L ack aq ar)) (hp : ∀ aq' ar', (cr_AK L (pi_sa ack md ch sr) aq' ar') → ps (cr_xs nd ky wd len jn cp lr md pl ch sr va rq rs fi sz uc ur uk uv uo st aq' ar')) : wpX_publish ps (cr_xs nd ky wd len jn cp lr md pl ch sr va rq rs fi sz uc ur uk uv uo st aq ar) := by
  have hl1 : 1 ≤ len := hC.2.2.2.2.2.2.1
  have h06 := kk_lt hK hC (p := 0) (by omega)
  have hm := kk_mlt hK h06
  refine nm_r (e' := nI (ch 0)) rfl (And.intro (vp_in_nI h06 (by decide)) ?_)
  unfold pi_sa at hp
  by_cases z : md (ch 0) = 10
  · have hj : ch 0 ≠ jn := fun y => by
      have := hK.2.1 (by omega)
      rw [← y] at this
      omega
    have hS := (h.1 (ch 0) h06 hj).2.1
    rw [if_pos z] at hp
    refine br_t (nf_t z (by omega)) ⟨5, xl_pub h06 (fun aq' ar' ha => hp aq' ar' (fun c hc => ?_)) 4 0 aq ar rfl (fun c hc => absurd hc (Nat.not_lt_zero c))⟩
    rw [(ha c hc).1, (ha c hc).2]
    exact hS.2 c hc
  · rw [if_neg z] at hp
    exact br_f (nf_f (k := 10) z (by omega) hm (by omega)) (hp aq ar hA)
end
end
section
section
variable {nd ky wd len jn cp stm fd fc ack N : Nat} {md ch sr hs st : Nat → Nat} {lr : Int32} {L : Nat → cr_E} {pl va rq rs fi sz uc ur uk uv uo aq ar wk : Nat → Int32}
variable {po : Int32 → Prop} {ps : SX → Prop} {pr : Int32 → SX → Prop}
theorem xw_clear {r : Nat} (hr : r < 7) (hp : ps (cr_xs nd ky wd len jn cp lr md pl ch sr va rq rs (upd fi r 0) (upd sz r 0) uc ur uk uv uo st aq ar)) : wpX_clearRing ps (cr_xs nd ky wd len jn cp lr md pl ch sr va rq rs fi sz uc ur uk uv uo st aq ar) (nI r) := by
  have v : vp_in (nI r) 7 := vp_in_nI hr (by decide)
  exact And.intro v (nm_r (up_c (by omega)) (And.intro v (nm_r (up_c (by omega)) hp)))
theorem xw_restart (hp : ps (cr_xs nd ky wd len jn 0 lr md pl ch sr va rq rs (upd fi 6 0) (upd sz 6 0) uc ur uk uv uo st aq ar)) : wpX_restartTransfer ps (cr_xs nd ky wd len jn cp lr md pl ch sr va rq rs fi sz uc ur uk uv uo st aq ar) := by
  unfold wpX_restartTransfer
  exact xw_clear (cp := 0) (r := 6) (by omega) hp
theorem xl_e40 {r : Nat} (hr : r < 6)
    (hp : ∀ rq' rs', (∀ c, c < 4 → rq' (r * 4 + c) = 0 ∧ rs' (r * 4 + c) = 0) → (∀ j c, j ≠ r → c < 4 → rq' (j * 4 + c) = rq (j * 4 + c) ∧ rs' (j * 4 + c) = rs (j * 4 + c)) → ps (cr_xs nd ky wd len jn cp lr md pl ch sr va rq' rs' fi sz uc ur uk uv uo st aq ar)) :
    ∀ (d i : Nat) (q s : Nat → Int32), i + d = 4 → (∀ c, c < i → q (r * 4 + c) = 0 ∧ s (r * 4 + c) = 0) → (∀ j c, j ≠ r → c < 4 → q (j * 4 + c) = rq (j * 4 + c) ∧ s (j * 4 + c) = rs (j * 4 + c)) →
    wX_erase_40 ps (nI r) (nI nd) (nI ky) (nI wd) 6 (nI len) (cr_jI jn) (nI cp) lr (d + 1) (nI i) (cr_nF md) pl (cr_nF ch) (cr_nF sr) va q s fi sz uc ur uk uv uo (cr_nF st) aq ar := by
  intro d
  induction d with
  | zero =>
    intro i q s hi h h'
    exact br_t (nI_le (a := 4) (by omega) (by omega)) (hp q s (fun c hc => h c (by omega)) h')
  | succ d ih =>
    intro i q s hi h h'
    have v : vp_in (nI r * 4 + nI i) 24 := by rw [n_m4]; exact vp_in_nI (by omega) (by decide)
    have q1 : upd q (nI r * 4 + nI i).toNatClampNeg 0 = upd q (r * 4 + i) 0 := by rw [n_m4, nI_clamp (by omega)]
    have q2 : upd s (nI r * 4 + nI i).toNatClampNeg 0 = upd s (r * 4 + i) 0 := by rw [n_m4, nI_clamp (by omega)]
    refine br_f (nI_ge (b := 4) (by omega) (by omega)) (And.intro v (nm_r q1 (And.intro v (nm_r q2 (nm_r (nI_1 _) ?_)))))
    refine ih (i + 1) _ _ (by omega) (fun c hc => ?_) (fun j c hj hc => ?_)
    · by_cases z : c = i
      · subst z
        exact ⟨pk_us, pk_us⟩
      · rw [pk_un (by omega), pk_un (by omega)]
        exact h c (by omega)
    · rw [pk_un (by omega), pk_un (by omega)]
      exact h' j c hj hc
theorem xl_e14 {r : Nat} (hr : r < 6)
    (hp : ∀ va' rq' rs', (∀ k, k < 8 → va' (r * 8 + k) = 0) → (∀ j k, j ≠ r → k < 8 → va' (j * 8 + k) = va (j * 8 + k)) → (∀ c, c < 4 → rq' (r * 4 + c) = 0 ∧ rs' (r * 4 + c) = 0) → (∀ j c, j ≠ r → c < 4 → rq' (j * 4 + c) = rq (j * 4 + c) ∧ rs' (j * 4 + c) = rs (j * 4 + c)) → ps (cr_xs nd ky wd len jn cp lr md pl ch sr va' rq' rs' fi sz uc ur uk uv uo st aq ar)) :
    ∀ (d i : Nat) (w : Nat → Int32), i + d = 8 → (∀ k, k < i → w (r * 8 + k) = 0) → (∀ j k, j ≠ r → k < 8 → w (j * 8 + k) = va (j * 8 + k)) →
    wX_erase_14 ps (nI r) (nI nd) (nI ky) (nI wd) 6 (nI len) (cr_jI jn) (nI cp) lr (d + 1) (nI i) (cr_nF md) pl (cr_nF ch) (cr_nF sr) w rq rs fi sz uc ur uk uv uo (cr_nF st) aq ar := by
  intro d
  induction d with
  | zero =>
    intro i w hi h h'
    exact br_t (nI_le (a := 8) (by omega) (by omega)) ⟨5, xl_e40 (va := w) hr (fun rq' rs' a b => hp w rq' rs' (fun k hk => h k (by omega)) h' a b) 4 0 rq rs rfl (fun c hc => absurd hc (Nat.not_lt_zero c)) (fun j c _ _ => ⟨rfl, rfl⟩)⟩
  | succ d ih =>
    intro i w hi h h'
    have v : vp_in (nI r * 8 + nI i) 48 := by rw [n_m8]; exact vp_in_nI (by omega) (by decide)
    have q1 : upd w (nI r * 8 + nI i).toNatClampNeg 0 = upd w (r * 8 + i) 0 := by rw [n_m8, nI_clamp (by omega)]
    refine br_f (nI_ge (b := 8) (by omega) (by omega)) (And.intro v (nm_r q1 (nm_r (nI_1 _) ?_)))
    refine ih (i + 1) _ (by omega) (fun c hc => ?_) (fun j c hj hc => ?_)
    · by_cases z : c = i
      · subst z
        exact pk_us
      · rw [pk_un (by omega)]
        exact h c (by omega)
    · rw [pk_un (by omega)]
      exact h' j c hj hc
theorem xw_erase {r : Nat} (hr : r < 6)
    (hp : ∀ va' rq' rs', (∀ k, k < 8 → va' (r * 8 + k) = 0) → (∀ j k, j ≠ r → k < 8 → va' (j * 8 + k) = va (j * 8 + k)) → (∀ c, c < 4 → rq' (r * 4 + c) = 0 ∧ rs' (r * 4 + c) = 0) → (∀ j c, j ≠ r → c < 4 → rq' (j * 4 + c) = rq (j * 4 + c) ∧ rs' (j * 4 + c) = rs (j * 4 + c)) → ps (cr_xs nd ky wd len jn cp lr md pl ch (cr_uN sr r 0) va' rq' rs' (upd fi r 0) (upd sz r 0) uc ur uk uv uo st aq ar)) : wpX_erase ps (cr_xs nd ky wd len jn cp lr md pl ch sr va rq rs fi sz uc ur uk uv uo st aq ar) (nI r) := by
  unfold wpX_erase
  refine xw_clear (by omega) ?_
  have q : upd (cr_nF sr) (nI r).toNatClampNeg 0 = cr_nF (cr_uN sr r 0) := by
    rw [nI_clamp (by omega)]
    exact cr_upd sr r 0
  exact And.intro (vp_in_nI hr (by decide)) (nm_r q ⟨9, xl_e14 (sr := cr_uN sr r 0) (fi := upd fi r 0) (sz := upd sz r 0) hr hp 8 0 va rfl (fun c hc => absurd hc (Nat.not_lt_zero c)) (fun j c _ _ => rfl)⟩)
/-- how many of the first n members are up -/
def pi_up (md ch : Nat → Nat) : Nat → Nat
  | 0 => 0
  | n + 1 => pi_up md ch n + (if md (ch n) = 10 then 1 else 0)
theorem up_le : ∀ n, pi_up md ch n ≤ n := by
  intro n
  induction n with
  | zero => exact Nat.le_refl 0
  | succ n ih =>
    show pi_up md ch n + _ ≤ n + 1
    split <;> omega
theorem up_0 : ∀ n, pi_up md ch n = 0 ↔ ∀ p, p < n → md (ch p) ≠ 10 := by
  intro n
  induction n with
  | zero => exact ⟨fun _ p hp => absurd hp (Nat.not_lt_zero p), fun _ => rfl⟩
  | succ n ih =>
    show pi_up md ch n + _ = 0 ↔ _
    by_cases z : md (ch n) = 10
    · rw [if_pos z]
      exact ⟨fun y => by omega, fun y => absurd z (y n (by omega))⟩
    · rw [if_neg z]
      constructor
      · intro y p hp
        by_cases x : p = n
        · rw [x]; exact z
        · exact ih.mp (by omega) p (by omega)
      · intro y
        have := ih.mpr (fun p hp => y p (by omega))
        omega
theorem up_1 : ∀ n p, p < n → md (ch p) = 10 → (pi_up md ch n = 1 ↔ ∀ q, q < n → q ≠ p → md (ch q) ≠ 10) := by
  intro n
  induction n with
  | zero => intro p hp; exact absurd hp (Nat.not_lt_zero p)
  | succ n ih =>
    intro p hp hu
    show pi_up md ch n + _ = 1 ↔ _
    by_cases e : p = n
    · subst e
      rw [if_pos hu]
      have := up_0 (md := md) (ch := ch) p
      constructor
      · intro y q hq hqp
        exact this.mp (by omega) q (by omega)
      · intro y
        have := this.mpr (fun q hq => y q (by omega) (by omega))
        omega
    · have I := ih p (by omega) hu
      have nz : pi_up md ch n ≠ 0 := fun y => (up_0 n).mp y p (by omega) hu
      by_cases z : md (ch n) = 10
      · rw [if_pos z]
        exact ⟨fun y => by omega, fun y => absurd z (y n (by omega) (by omega))⟩
      · rw [if_neg z]
        constructor
        · intro y q hq hqp
          by_cases x : q = n
          · rw [x]; exact z
          · exact I.mp (by omega) q (by omega) hqp
        · intro y
          have := I.mpr (fun q hq hqp => y q (by omega) hqp)
          omega
theorem xl_up (hC : (pi_C nd ky wd len)) (hK : (pi_K nd len jn md ch pl)) (hp : po (nI (pi_up md ch len))) : ∀ d i, i + d = len → wX_upMembers_4 po (nI nd) (nI ky) (nI wd) 6 (nI len) (cr_jI jn) (nI cp) lr (cr_nF md) pl (cr_nF ch) (cr_nF sr) va rq rs fi sz uc ur uk uv uo (cr_nF st) aq ar (d + 1) (nI (pi_up md ch i)) (nI i) := by
  have hl2 : len ≤ nd := hC.2.2.2.2.2.2.2
  have hn6 : nd ≤ 6 := hC.2.1
  intro d
  induction d with
  | zero =>
    intro i hi
    have : i = len := by omega
    subst this
    exact br_t (nI_le (Nat.le_refl i) (by omega)) hp
  | succ d ih =>
    intro i hi
    have I := ih (i + 1) (by omega)
    have h6 := kk_lt hK hC (p := i) (by omega)
    have e1 : cr_nF ch (nI i).toNatClampNeg = nI (ch i) := nf_at (by omega)
    refine br_f (nI_ge (by omega) (by omega)) (And.intro (vp_in_nI (by omega) (by decide)) ?_)
    rw [e1]
    refine And.intro (vp_in_nI h6 (by decide)) ?_
    by_cases z : md (ch i) = 10
    · have q : pi_up md ch (i + 1) = pi_up md ch i + 1 := by
        show pi_up md ch i + _ = _
        rw [if_pos z]
      rw [q] at I
      exact br_t (nf_t z (by omega)) (nm_r (nI_1 _) (nm_r (nI_1 _) I))
    · have q : pi_up md ch (i + 1) = pi_up md ch i := by
        show pi_up md ch i + _ = _
        rw [if_neg z]
        rfl
      rw [q] at I
      exact br_f (nf_f (k := 10) z (by omega) (kk_mlt hK h6) (by omega)) (nm_r (nI_1 _) I)
theorem xw_up (hC : (pi_C nd ky wd len)) (hK : (pi_K nd len jn md ch pl)) (hp : po (nI (pi_up md ch len))) : wpX_upMembers po (cr_xs nd ky wd len jn cp lr md pl ch sr va rq rs fi sz uc ur uk uv uo st aq ar) :=
  ⟨len + 1, xl_up hC hK hp len 0 (by omega)⟩
/-- the chain shifted from p up to i -/
def pi_sh (ch : Nat → Nat) (p i : Nat) : Nat → Nat := fun j => if p ≤ j ∧ j < i then ch (j + 1) else ch j
theorem sh_0 {p : Nat} : pi_sh ch p p = ch := by
  funext j
  exact if_neg (by omega)
theorem sh_s {p i : Nat} (h : p ≤ i) : cr_uN (pi_sh ch p i) i (ch (i + 1)) = pi_sh ch p (i + 1) := by
  funext j
  unfold cr_uN pi_sh
  by_cases z : j = i
  · rw [if_pos z, if_pos (by omega), z]
  · rw [if_neg z]
    by_cases y : p ≤ j ∧ j < i
    · rw [if_pos y, if_pos (by omega)]
    · rw [if_neg y, if_neg (by omega)]
theorem sh_dl {p : Nat} : pi_sh ch p (len - 1) = pi_dl ch p len := rfl
theorem sh_at {p i : Nat} (h : p ≤ i) : pi_sh ch p i (i + 1) = ch (i + 1) := if_neg (by omega)
theorem xl_rem {p : Nat} (hC : (pi_C nd ky wd len)) (hK : (pi_K nd len jn md ch pl)) (hpl : p < len)
    (hp : ∀ pl', pl' (ch p) = -1 → (∀ q, q < len - 1 → pl' (pi_dl ch p len q) = nI q) → (∀ i, i < 6 → (∀ q, q < len → ch q ≠ i) → pl' i = pl i) → ps (cr_xs nd ky wd (len - 1) jn cp lr (cr_uN md (ch p) 0) pl' (pi_dl ch p len) sr va rq rs fi sz uc ur uk uv uo st aq ar)) :
    ∀ (d i : Nat) (w : Nat → Int32), i + d = len - 1 → p ≤ i → (∀ j, p ≤ j → j < i → w (ch (j + 1)) = nI j) → (∀ x, (∀ j, p ≤ j → j < i → ch (j + 1) ≠ x) → w x = pl x) →
    wX_removeFromChain_7 ps (nI (ch p)) (nI nd) (nI ky) (nI wd) 6 (nI len) (cr_jI jn) (nI cp) lr (d + 1) (nI i) (cr_nF md) w (cr_nF (pi_sh ch p i)) (cr_nF sr) va rq rs fi sz uc ur uk uv uo (cr_nF st) aq ar := by
  have hl1 : 1 ≤ len := hC.2.2.2.2.2.2.1
  have hl2 : len ≤ nd := hC.2.2.2.2.2.2.2
  have hn6 : nd ≤ 6 := hC.2.1
  have h6 := kk_lt hK hC hpl
  intro d
  induction d with
  | zero =>
    intro i w hi hpi h1 h2
    have ei : i = len - 1 := by omega
    subst ei
    have v : vp_in (nI (ch p)) 6 := vp_in_nI h6 (by decide)
    have q2 : upd (cr_nF md) (nI (ch p)).toNatClampNeg 0 = cr_nF (cr_uN md (ch p) 0) := by
      rw [nI_clamp (by omega)]
      exact cr_upd md (ch p) 0
    refine br_t (by rw [n_pred hl1]; exact nI_le (Nat.le_refl _) (by omega)) (nm_r (n_pred hl1) (And.intro v (nm_r (up_c (by omega)) (And.intro v (nm_r q2 ?_)))))
    refine hp (upd w (ch p) (-1)) pk_us (fun q hq => ?_) (fun i hi hq => ?_)
    · obtain ⟨q', hq', hz, e, f1, f2⟩ := dl_ex (ch := ch) (p := p) hq
      rw [e, pk_un (fun y => hz (kk_inj hK hC hq' hpl y))]
      by_cases z : q < p
      · rw [h2 _ (fun j a b y => by have := kk_inj hK hC (by omega) hq' y; have := f1 z; omega), f1 z]
        exact kk_pl hK (by omega)
      · rw [f2 (by omega)]
        exact h1 q (by omega) (by omega)
    · rw [pk_un (fun y => hq p hpl y.symm)]
      exact h2 i (fun j a b => hq (j + 1) (by omega))
  | succ d ih =>
    intro i w hi hpi h1 h2
    have h61 := kk_lt hK hC (p := i + 1) (by omega)
    have e1 : cr_nF (pi_sh ch p i) (nI i + 1).toNatClampNeg = nI (ch (i + 1)) := by rw [nI_1, nf_at (by omega), sh_at hpi]
    have q1 : upd (cr_nF (pi_sh ch p i)) (nI i).toNatClampNeg (nI (ch (i + 1))) = cr_nF (pi_sh ch p (i + 1)) := by
      rw [nI_clamp (by omega), cr_upd, sh_s hpi]
    refine br_f (by rw [n_pred hl1]; exact nI_ge (by omega) (by omega)) (And.intro (by rw [nI_1]; exact vp_in_nI (by omega) (by decide)) (nm_r e1 (And.intro (vp_in_nI (by omega) (by decide)) (nm_r q1 (And.intro (vp_in_nI h61 (by decide)) (nm_r (up_c (by omega)) (nm_r (nI_1 _) ?_)))))))
    refine ih (i + 1) (upd w (ch (i + 1)) (nI i)) (by omega) (by omega) (fun j a b => ?_) (fun x hx => ?_)
    · by_cases z : j = i
      · rw [z]; exact pk_us
      · rw [pk_un (fun y => z (by have := kk_inj hK hC (by omega) (by omega) y; omega))]
        exact h1 j a (by omega)
    · rw [pk_un (fun y => hx i hpi (by omega) y.symm)]
      exact h2 x (fun j a b => hx j a (by omega))
theorem xw_rem {p : Nat} (hC : (pi_C nd ky wd len)) (hK : (pi_K nd len jn md ch pl)) (hpl : p < len)
    (hp : ∀ pl', pl' (ch p) = -1 → (∀ q, q < len - 1 → pl' (pi_dl ch p len q) = nI q) → (∀ i, i < 6 → (∀ q, q < len → ch q ≠ i) → pl' i = pl i) → ps (cr_xs nd ky wd (len - 1) jn cp lr (cr_uN md (ch p) 0) pl' (pi_dl ch p len) sr va rq rs fi sz uc ur uk uv uo st aq ar)) :
    wpX_removeFromChain ps (cr_xs nd ky wd len jn cp lr md pl ch sr va rq rs fi sz uc ur uk uv uo st aq ar) (nI (ch p)) := by
  have h6 := kk_lt hK hC hpl
  refine And.intro (vp_in_nI h6 (by decide)) (nm_r (e' := nI p) (by rw [nI_clamp (by omega)]; exact kk_pl hK hpl) ?_)
  have := xl_rem (lr := lr) (jn := jn) (cp := cp) (ps := ps) hC hK hpl hp (len - 1 - p) p pl (by omega) (Nat.le_refl p) (fun j a b => by omega) (fun _ _ => rfl)
  rw [sh_0] at this
  exact ⟨_, this⟩
end
end
section
section
variable {nd ky wd len jn cp stm fd fc ack N : Nat} {md ch sr hs st : Nat → Nat} {lr : Int32} {L : Nat → cr_E} {pl va rq rs fi sz uc ur uk uv uo aq ar wk : Nat → Int32}
variable {po : Int32 → Prop} {qs : SY → Prop} {qr : Int32 → SY → Prop}
theorem i_nlt {a b : Int32} (h : a ≤ b) : ¬ b < a := Int32.not_lt.mpr h
theorem yw_noNode_t {v : Int32} (h : v < 0 ∨ nI nd ≤ v) (hp : po 1) : wpY_noNode po (cr_ys nd ky wd len ack stm fd lr L md ch hs sr wk) v := by
  by_cases z : v < 0
  · exact br_t z hp
  · exact br_f z (br_f (i_nlt (h.resolve_left z)) hp)
theorem yw_noNode_f {i : Nat} (hi : i < nd) (hn : nd ≤ 6) (hp : po 0) : wpY_noNode po (cr_ys nd ky wd len ack stm fd lr L md ch hs sr wk) (nI i) :=
  br_f (nI_pos (by omega)) (br_t (nI_lt hi (by omega)) hp)
theorem yw_noKey_t {v : Int32} (h : v < 0 ∨ nI ky ≤ v) (hp : po 1) : wpY_noKey po (cr_ys nd ky wd len ack stm fd lr L md ch hs sr wk) v := by
  by_cases z : v < 0
  · exact br_t z hp
  · exact br_f z (br_f (i_nlt (h.resolve_left z)) hp)
theorem yw_noKey_f {i : Nat} (hi : i < ky) (hn : ky ≤ 8) (hp : po 0) : wpY_noKey po (cr_ys nd ky wd len ack stm fd lr L md ch hs sr wk) (nI i) :=
  br_f (nI_pos (by omega)) (br_t (nI_lt hi (by omega)) hp)
theorem yw_noClient_t {v : Int32} (h : v < 0 ∨ nI 4 ≤ v) (hp : po 1) : wpY_noClient po (cr_ys nd ky wd len ack stm fd lr L md ch hs sr wk) v := by
  by_cases z : v < 0
  · exact br_t z hp
  · exact br_f z (br_f (i_nlt (a := nI 4) (h.resolve_left z)) hp)
theorem yw_noClient_f {i : Nat} (hi : i < 4) (hp : po 0) : wpY_noClient po (cr_ys nd ky wd len ack stm fd lr L md ch hs sr wk) (nI i) :=
  br_f (nI_pos (by omega)) (br_t (nI_lt (b := 4) hi (by decide)) hp)
theorem yw_notUp_t {v : Int32} (h : v < 0 ∨ nI nd ≤ v) (hp : po 1) : wpY_notUp po (cr_ys nd ky wd len ack stm fd lr L md ch hs sr wk) v := by
  unfold wpY_notUp
  exact yw_noNode_t h (br_f (by decide) hp)
theorem yw_notUp {i : Nat} (hC : (pi_C nd ky wd len)) (hK : (pi_K nd len jn md ch pl)) (hi : i < nd) (h0 : md i = 10 → po 0) (h1 : md i ≠ 10 → po 1) : wpY_notUp po (cr_ys nd ky wd len ack stm fd lr L md ch hs sr wk) (nI i) := by
  have hn6 : nd ≤ 6 := hC.2.1
  unfold wpY_notUp
  refine yw_noNode_f hi hn6 (br_t rfl (And.intro (vp_in_nI (by omega) (by decide)) ?_))
  rw [nf_at (by omega)]
  exact pk_eq (md i) 10 h0 h1 rfl rfl (kk_mlt hK (by omega)) (by omega)
theorem yw_tail (hC : (pi_C nd ky wd len)) (hp : po (nI (ch (len - 1)))) : wpY_tail po (cr_ys nd ky wd len ack stm fd lr L md ch hs sr wk) := by
  have hl1 : 1 ≤ len := hC.2.2.2.2.2.2.1
  have hl2 : len ≤ nd := hC.2.2.2.2.2.2.2
  have hn6 : nd ≤ 6 := hC.2.1
  refine And.intro (by rw [n_pred hl1]; exact vp_in_nI (by omega) (by decide)) ?_
  rw [n_pred hl1, nf_at (by omega)]
  exact hp
theorem yl_place {p : Nat} (hC : (pi_C nd ky wd len)) (hK : (pi_K nd len jn md ch pl)) (hp : p < len) (ho : po (nI p)) : ∀ d i, i + d = p → wY_place_2 po (nI (ch p)) (nI nd) (nI ky) (nI wd) (nI len) (nI ack) (nI stm) (nI fd) lr (cr_nF (cr_kd L)) (cr_nF (cr_wh L)) (cr_nu L) (cr_nF (cr_so L)) (cr_nF (cr_ta L)) (cr_am L) (cr_nF md) (cr_nF ch) (cr_nF hs) (cr_nF sr) wk (d + 1) (nI i) := by
  have hl2 : len ≤ nd := hC.2.2.2.2.2.2.2
  have hn6 : nd ≤ 6 := hC.2.1
  have h6 := kk_lt hK hC hp
  intro d
  induction d with
  | zero =>
    intro i hi
    have : i = p := by omega
    subst this
    exact br_f (nI_ge hp (by omega)) (And.intro (vp_in_nI (by omega) (by decide)) (br_t (nf_t rfl (by omega)) ho))
  | succ d ih =>
    intro i hi
    have h6' := kk_lt hK hC (p := i) (by omega)
    refine br_f (nI_ge (by omega) (by omega)) (And.intro (vp_in_nI (by omega) (by decide)) (br_f (nf_f (fun y => ?_) (by omega) (by omega) (by omega)) (nm_r (nI_1 _) (ih (i + 1) (by omega)))))
    have := kk_inj hK hC (by omega) hp y
    omega
theorem yw_place {p : Nat} (hC : (pi_C nd ky wd len)) (hK : (pi_K nd len jn md ch pl)) (hp : p < len) (ho : po (nI p)) : wpY_place po (cr_ys nd ky wd len ack stm fd lr L md ch hs sr wk) (nI (ch p)) :=
  ⟨p + 1, yl_place hC hK hp ho p 0 (by omega)⟩
theorem yl_placeN {x : Nat} (hC : (pi_C nd ky wd len)) (hK : (pi_K nd len jn md ch pl)) (hx : x < 6) (hn : ∀ q, q < len → ch q ≠ x) (ho : po (-1)) : ∀ d i, i + d = len → wY_place_2 po (nI x) (nI nd) (nI ky) (nI wd) (nI len) (nI ack) (nI stm) (nI fd) lr (cr_nF (cr_kd L)) (cr_nF (cr_wh L)) (cr_nu L) (cr_nF (cr_so L)) (cr_nF (cr_ta L)) (cr_am L) (cr_nF md) (cr_nF ch) (cr_nF hs) (cr_nF sr) wk (d + 1) (nI i) := by
  have hl2 : len ≤ nd := hC.2.2.2.2.2.2.2
  have hn6 : nd ≤ 6 := hC.2.1
  intro d
  induction d with
  | zero =>
    intro i hi
    exact br_t (nI_le (by omega) (by omega)) ho
  | succ d ih =>
    intro i hi
    have h6' := kk_lt hK hC (p := i) (by omega)
    exact br_f (nI_ge (by omega) (by omega)) (And.intro (vp_in_nI (by omega) (by decide)) (br_f (nf_f (hn i (by omega)) (by omega) (by omega) (by omega)) (nm_r (nI_1 _) (ih (i + 1) (by omega)))))
theorem yw_placeN {x : Nat} (hC : (pi_C nd ky wd len)) (hK : (pi_K nd len jn md ch pl)) (hx : x < 6) (hn : ∀ q, q < len → ch q ≠ x) (ho : po (-1)) : wpY_place po (cr_ys nd ky wd len ack stm fd lr L md ch hs sr wk) (nI x) :=
  ⟨len + 1, yl_placeN hC hK hx hn ho len 0 (by omega)⟩
theorem yl_hj1 (hC : (pi_C nd ky wd len)) (hK : (pi_K nd len jn md ch pl)) (hj : jn < 6) (ho : po 1) : ∀ d i, i + d = jn → wY_haveJoiner_2 po (nI nd) (nI ky) (nI wd) (nI len) (nI ack) (nI stm) (nI fd) lr (cr_nF (cr_kd L)) (cr_nF (cr_wh L)) (cr_nu L) (cr_nF (cr_so L)) (cr_nF (cr_ta L)) (cr_am L) (cr_nF md) (cr_nF ch) (cr_nF hs) (cr_nF sr) wk (d + 1) (nI i) := by
  have hn6 : nd ≤ 6 := hC.2.1
  have hjd := kk_jnd hK hj
  intro d
  induction d with
  | zero =>
    intro i hi
    have : i = jn := by omega
    subst this
    exact br_f (nI_ge hjd (by omega)) (And.intro (vp_in_nI (by omega) (by decide)) (br_t (nf_t (hK.2.1 hj) (by omega)) ho))
  | succ d ih =>
    intro i hi
    have nm : md i ≠ 1 := fun y => by have := (kk_jn hK (by omega) y).1; omega
    exact br_f (nI_ge (by omega) (by omega)) (And.intro (vp_in_nI (by omega) (by decide)) (br_f (nf_f (k := 1) nm (by omega) (kk_mlt hK (by omega)) (by omega)) (nm_r (nI_1 _) (ih (i + 1) (by omega)))))
theorem yl_hj0 (hC : (pi_C nd ky wd len)) (hK : (pi_K nd len jn md ch pl)) (hj : jn = 6) (ho : po 0) : ∀ d i, i + d = nd → wY_haveJoiner_2 po (nI nd) (nI ky) (nI wd) (nI len) (nI ack) (nI stm) (nI fd) lr (cr_nF (cr_kd L)) (cr_nF (cr_wh L)) (cr_nu L) (cr_nF (cr_so L)) (cr_nF (cr_ta L)) (cr_am L) (cr_nF md) (cr_nF ch) (cr_nF hs) (cr_nF sr) wk (d + 1) (nI i) := by
  have hn6 : nd ≤ 6 := hC.2.1
  intro d
  induction d with
  | zero =>
    intro i hi
    exact br_t (nI_le (by omega) (by omega)) ho
  | succ d ih =>
    intro i hi
    have nm : md i ≠ 1 := fun y => by have := (kk_jn hK (by omega) y).1; omega
    exact br_f (nI_ge (by omega) (by omega)) (And.intro (vp_in_nI (by omega) (by decide)) (br_f (nf_f (k := 1) nm (by omega) (kk_mlt hK (by omega)) (by omega)) (nm_r (nI_1 _) (ih (i + 1) (by omega)))))
theorem yw_hj (hC : (pi_C nd ky wd len)) (hK : (pi_K nd len jn md ch pl)) (h1 : jn < 6 → po 1) (h0 : jn = 6 → po 0) : wpY_haveJoiner po (cr_ys nd ky wd len ack stm fd lr L md ch hs sr wk) := by
  have := hK.1
  by_cases z : jn < 6
  · exact ⟨jn + 1, yl_hj1 hC hK z (h1 z) jn 0 (by omega)⟩
  · exact ⟨nd + 1, yl_hj0 hC hK (by omega) (h0 (by omega)) nd 0 (by omega)⟩
theorem yw_settle (hC : (pi_C nd ky wd len)) (hK : (pi_K nd len jn md ch pl)) (hp : qs (cr_ys nd ky wd len (pi_sa ack md ch sr) stm fd lr L md ch hs sr wk)) : wpY_settle qs (cr_ys nd ky wd len ack stm fd lr L md ch hs sr wk) := by
  have hl1 : 1 ≤ len := hC.2.2.2.2.2.2.1
  have h06 := kk_lt hK hC (p := 0) (by omega)
  have hm := kk_mlt hK h06
  refine nm_r (e' := nI (ch 0)) rfl (And.intro (vp_in_nI h06 (by decide)) ?_)
  unfold pi_sa at hp
  by_cases z : md (ch 0) = 10
  · rw [if_pos z] at hp
    exact br_t (nf_t z (by omega)) (And.intro (vp_in_nI h06 (by decide)) (nm_r (nf_at (by omega)) hp))
  · rw [if_neg z] at hp
    exact br_f (nf_f (k := 10) z (by omega) hm (by omega)) hp
theorem yl_last {c n : Nat} (hw : ∀ i, i < n → cr_wh L i < 4) (hn : n ≤ 200) (hc : c < 4) (ho : po (cr_lo L c n)) : ∀ d i, i + d = n → wY_lastOf_5 po (nI c) (nI n) (nI nd) (nI ky) (nI wd) (nI len) (nI ack) (nI stm) (nI fd) lr (cr_nF (cr_kd L)) (cr_nF (cr_wh L)) (cr_nu L) (cr_nF (cr_so L)) (cr_nF (cr_ta L)) (cr_am L) (cr_nF md) (cr_nF ch) (cr_nF hs) (cr_nF sr) wk (d + 1) (cr_lo L c i) (nI i) := by
  intro d
  induction d with
  | zero =>
    intro i hi
    have : i = n := by omega
    subst this
    exact br_t (nI_le (Nat.le_refl i) (by omega)) ho
  | succ d ih =>
    intro i hi
    have I := ih (i + 1) (by omega)
    have hwi := hw i (by omega)
    refine br_f (nI_ge (by omega) (by omega)) (And.intro (vp_in_nI (by omega) (by decide)) ?_)
    by_cases z : cr_wh L i = c
    · have q : cr_lo L c (i + 1) = nI i := if_pos z
      rw [q] at I
      exact br_t (nf_t z (by omega)) (nm_r (nI_1 _) I)
    · have q : cr_lo L c (i + 1) = cr_lo L c i := if_neg z
      rw [q] at I
      exact br_f (nf_f z (by omega) (by omega) (by omega)) (nm_r (nI_1 _) I)
theorem yw_last {c n : Nat} (hL : (pi_L ky N L)) (hn : n ≤ N) (hN : N ≤ 200) (hc : c < 4) (ho : po (cr_lo L c n)) : wpY_lastOf po (cr_ys nd ky wd len ack stm fd lr L md ch hs sr wk) (nI c) (nI n) :=
  ⟨n + 1, yl_last (fun i hi => (hL i (by omega)).1.2.1) (by omega) hc ho n 0 (by omega)⟩
theorem yl_tch {k b m : Nat} (hw : ∀ i, i < m → cr_wf L ky (b + i)) (hn : b + m ≤ 200) (hky : ky ≤ 8) (hk : k < 8) (ho : po (nI (cr_tc L k b m))) : ∀ d j, j + d = m → wY_touching_6 po (nI k) (nI (b + m)) (nI nd) (nI ky) (nI wd) (nI len) (nI ack) (nI stm) (nI fd) lr (cr_nF (cr_kd L)) (cr_nF (cr_wh L)) (cr_nu L) (cr_nF (cr_so L)) (cr_nF (cr_ta L)) (cr_am L) (cr_nF md) (cr_nF ch) (cr_nF hs) (cr_nF sr) wk (d + 1) (nI (cr_tc L k b j)) (nI (b + j)) := by
  intro d
  induction d with
  | zero =>
    intro j hj
    have : j = m := by omega
    subst this
    exact br_t (nI_le (Nat.le_refl _) (by omega)) ho
  | succ d ih =>
    intro j hj
    have I := ih (j + 1) (by omega)
    obtain ⟨w1, w2, w3, w4, w5, w6, w7⟩ := hw j (by omega)
    have v : vp_in (nI (b + j)) 200 := vp_in_nI (by omega) (by decide)
    refine br_f (nI_ge (by omega) (by omega)) (And.intro v ?_)
    by_cases z : cr_so L (b + j) = k
    · have q : cr_tc L k b (j + 1) = cr_tc L k b j + 1 := by
        show cr_tc L k b j + _ = _
        rw [if_pos (Or.inl z)]
      rw [q] at I
      exact br_t (nf_t z (by omega)) (nm_r (nI_1 _) (nm_r (nI_1 _) I))
    · refine br_f (nf_f z (by omega) (by omega) (by omega)) (And.intro v ?_)
      by_cases y : cr_ta L (b + j) = k
      · have q : cr_tc L k b (j + 1) = cr_tc L k b j + 1 := by
          show cr_tc L k b j + _ = _
          rw [if_pos (Or.inr y)]
        rw [q] at I
        exact br_t (nf_t y (by omega)) (nm_r (nI_1 _) (nm_r (nI_1 _) I))
      · have q : cr_tc L k b (j + 1) = cr_tc L k b j := by
          show cr_tc L k b j + _ = _
          rw [if_neg (fun x => x.elim z y)]
          rfl
        rw [q] at I
        exact br_f (nf_f y (by omega) (by omega) (by omega)) (nm_r (nI_1 _) I)
theorem yw_tch {k b n : Nat} (hL : (pi_L ky N L)) (hb : b ≤ n) (hn : n ≤ N) (hN : N ≤ 200) (hky : ky ≤ 8) (hk : k < ky) (ho : po (nI (cr_tc L k b (n - b)))) : wpY_touching po (cr_ys nd ky wd len ack stm fd lr L md ch hs sr wk) (nI k) (nI b) (nI n) := by
  obtain ⟨m, rfl⟩ : ∃ m, n = b + m := ⟨n - b, by omega⟩
  rw [show b + m - b = m by omega] at ho
  exact ⟨m + 1, yl_tch (fun i hi => (hL (b + i) (by omega)).1) (by omega) hky (by omega) ho m 0 (by omega)⟩
theorem st_cong {i : Nat} {w w' : Nat → Int32} (hta : cr_ta L i < 8) (hso : cr_so L i < 8) (h : ∀ k, k < 8 → w k = w' k) : ∀ k, k < 8 → cr_step L i w k = cr_step L i w' k := by
  intro k hk
  unfold cr_step
  rw [h _ hta, h _ hso]
  have U : ∀ (x : Int32) (a : Nat) (u u' : Nat → Int32), (∀ k, k < 8 → u k = u' k) → ∀ k, k < 8 → upd u a x k = upd u' a x k := by
    intro x a u u' hu k hk
    by_cases z : k = a
    · rw [z, pk_us, pk_us]
    · rw [pk_un z, pk_un z]
      exact hu k hk
  split
  · exact U _ _ _ _ h k hk
  · split
    · exact U _ _ _ _ h k hk
    · exact U _ _ _ _ (U _ _ _ _ h) k hk
theorem yl_v23 {k n : Nat} (hw : ∀ i, i < n → cr_wf L ky i) (hn : n ≤ 200) (hky : ky ≤ 8) (hk : k < ky) (ho : ∀ wk', qr (cr_W L n k) (cr_ys nd ky wd len ack stm fd lr L md ch hs sr wk')) : ∀ (d i : Nat) (wk : Nat → Int32), i + d = n → (∀ k, k < 8 → wk k = cr_W L i k) → wY_valueAfter_23 qr (nI k) (nI n) (nI nd) (nI ky) (nI wd) (nI len) (nI ack) (nI stm) (nI fd) lr (d + 1) (nI i) (cr_nF (cr_kd L)) (cr_nF (cr_wh L)) (cr_nu L) (cr_nF (cr_so L)) (cr_nF (cr_ta L)) (cr_am L) (cr_nF md) (cr_nF ch) (cr_nF hs) (cr_nF sr) wk := by
  intro d
  induction d with
  | zero =>
    intro i wk hi h
    have : i = n := by omega
    subst this
    refine br_t (nI_le (Nat.le_refl i) (by omega)) (And.intro (vp_in_nI (by omega) (by decide)) ?_)
    rw [nI_clamp (by omega), h k (by omega)]
    exact ho wk
  | succ d ih =>
    intro i wk hi h
    obtain ⟨w1, w2, w3, w4, w5, w6, w7⟩ := hw i (by omega)
    have v : vp_in (nI i) 200 := vp_in_nI (by omega) (by decide)
    have vt : vp_in (nI (cr_ta L i)) 8 := vp_in_nI (by omega) (by decide)
    have vs : vp_in (nI (cr_so L i)) 8 := vp_in_nI (by omega) (by decide)
    have S := st_cong (L := L) (i := i) (by omega) (by omega) h
    have c1 : (nI i).toNatClampNeg = i := nI_clamp (by omega)
    have c2 : (nI (cr_ta L i)).toNatClampNeg = cr_ta L i := nI_clamp (by omega)
    have c3 : (nI (cr_so L i)).toNatClampNeg = cr_so L i := nI_clamp (by omega)
    refine br_f (nI_ge (by omega) (by omega)) (And.intro v (nm_r (nf_at (by omega)) (And.intro v (nm_r (nf_at (by omega)) (And.intro v ?_)))))
    by_cases z1 : cr_kd L i = 1
    · have es : cr_step L i wk = upd wk (cr_ta L i) (cr_am L i) := if_pos z1
      rw [es] at S
      exact br_t (nf_t z1 (by omega)) (And.intro v (And.intro vt (nm_r (e' := upd wk (cr_ta L i) (cr_am L i)) (by rw [c1, c2]) (nm_r (nI_1 _) (ih (i + 1) _ (by omega) S)))))
    · refine br_f (nf_f (k := 1) z1 (by omega) (by omega) (by omega)) (And.intro v ?_)
      by_cases z2 : cr_kd L i = 2
      · have es : cr_step L i wk = upd wk (cr_ta L i) (wk (cr_ta L i) + cr_am L i) := by
          unfold cr_step
          rw [if_neg z1, if_pos z2]
        rw [es] at S
        exact br_t (nf_t z2 (by omega)) (And.intro vt (And.intro v (And.intro vt (nm_r (e' := upd wk (cr_ta L i) (wk (cr_ta L i) + cr_am L i)) (by rw [c1, c2]) (nm_r (nI_1 _) (ih (i + 1) _ (by omega) S))))))
      · have es : cr_step L i wk = upd (upd wk (cr_ta L i) (wk (cr_ta L i) + wk (cr_so L i))) (cr_so L i) 0 := by
          unfold cr_step
          rw [if_neg z1, if_neg z2]
        rw [es] at S
        exact br_f (nf_f (k := 2) z2 (by omega) (by omega) (by omega)) (And.intro vt (And.intro vs (And.intro vt (nm_r (e' := upd wk (cr_ta L i) (wk (cr_ta L i) + wk (cr_so L i))) (by rw [c2, c3]) (And.intro vs (nm_r (e' := upd (upd wk (cr_ta L i) (wk (cr_ta L i) + wk (cr_so L i))) (cr_so L i) 0) (by rw [c3]) (nm_r (nI_1 _) (ih (i + 1) _ (by omega) S))))))))
theorem yl_v2 {k n : Nat} (hw : ∀ i, i < n → cr_wf L ky i) (hn : n ≤ 200) (hky : ky ≤ 8) (hk : k < ky) (ho : ∀ wk', qr (cr_W L n k) (cr_ys nd ky wd len ack stm fd lr L md ch hs sr wk')) : ∀ (d i : Nat) (wk : Nat → Int32), i + d = 8 → (∀ k, k < i → wk k = 0) → wY_valueAfter_2 qr (nI k) (nI n) (nI nd) (nI ky) (nI wd) (nI len) (nI ack) (nI stm) (nI fd) lr (d + 1) (nI i) (cr_nF (cr_kd L)) (cr_nF (cr_wh L)) (cr_nu L) (cr_nF (cr_so L)) (cr_nF (cr_ta L)) (cr_am L) (cr_nF md) (cr_nF ch) (cr_nF hs) (cr_nF sr) wk := by
  intro d
  induction d with
  | zero =>
    intro i wk hi h
    exact br_t (nI_le (a := 8) (by omega) (by omega)) ⟨n + 1, yl_v23 hw hn hky hk ho n 0 wk (by omega) (fun k hk => h k (by omega))⟩
  | succ d ih =>
    intro i wk hi h
    refine br_f (nI_ge (b := 8) (by omega) (by omega)) (And.intro (vp_in_nI (by omega) (by decide)) (nm_r (up_c (by omega)) (nm_r (nI_1 _) (ih (i + 1) _ (by omega) (fun c hc => ?_)))))
    by_cases z : c = i
    · rw [z]; exact pk_us
    · rw [pk_un z]; exact h c (by omega)
theorem yw_value {k n : Nat} (hL : (pi_L ky N L)) (hn : n ≤ N) (hN : N ≤ 200) (hky : ky ≤ 8) (hk : k < ky) (ho : ∀ wk', qr (cr_W L n k) (cr_ys nd ky wd len ack stm fd lr L md ch hs sr wk')) : wpY_valueAfter qr (cr_ys nd ky wd len ack stm fd lr L md ch hs sr wk) (nI k) (nI n) :=
  ⟨9, yl_v2 (fun i hi => (hL i (by omega)).1) (by omega) hky hk ho 8 0 wk (by omega) (fun c hc => absurd hc (Nat.not_lt_zero c))⟩
end
end
section
/-- the relation: both states are pictures of one list of updates, one chain, two lengths a node, and the joiner's items -/
def i_Rel (_ : Nat) (u : SX) (v : SY) : Prop := ∃ (nd ky wd len jn cp stm fd fc ack N : Nat) (md ch sr hs st : Nat → Nat) (lr : Int32) (L : Nat → cr_E) (pl va rq rs fi sz uc ur uk uv uo aq ar wk : Nat → Int32), u = (cr_xs nd ky wd len jn cp lr md pl ch sr va rq rs fi sz uc ur uk uv uo st aq ar) ∧ v = (cr_ys nd ky wd len ack stm fd lr L md ch hs sr wk) ∧ (pi_P nd ky wd len jn cp stm fd fc ack N md ch sr hs st L pl) ∧ (cr_D L ky jn cp fd fc sr hs st va rq rs fi sz uc ur uk uv uo) ∧ (cr_AK L ack aq ar)
theorem i_up {k : Nat} {u : SX} {v : SY} (h : i_Rel k u v) : i_Rel (k + 5) u v := h
theorem zz_el {Z : SX → SY → Prop} {k : Nat} {u : SX} {v : SY} (h : ∀ (nd ky wd len jn cp stm fd fc ack N : Nat) (md ch sr hs st : Nat → Nat) (lr : Int32) (L : Nat → cr_E) (pl va rq rs fi sz uc ur uk uv uo aq ar wk : Nat → Int32), (pi_P nd ky wd len jn cp stm fd fc ack N md ch sr hs st L pl) → (cr_D L ky jn cp fd fc sr hs st va rq rs fi sz uc ur uk uv uo) → (cr_AK L ack aq ar) → Z (cr_xs nd ky wd len jn cp lr md pl ch sr va rq rs fi sz uc ur uk uv uo st aq ar) (cr_ys nd ky wd len ack stm fd lr L md ch hs sr wk)) (I : i_Rel k u v) : Z u v :=
  Exists.elim I fun nd I => Exists.elim I fun ky I => Exists.elim I fun wd I => Exists.elim I fun len I => Exists.elim I fun jn I => Exists.elim I fun cp I => Exists.elim I fun stm I => Exists.elim I fun fd I => Exists.elim I fun fc I => Exists.elim I fun ack I => Exists.elim I fun N I => Exists.elim I fun md I => Exists.elim I fun ch I => Exists.elim I fun sr I => Exists.elim I fun hs I => Exists.elim I fun st I => Exists.elim I fun lr I => Exists.elim I fun L I => Exists.elim I fun pl I => Exists.elim I fun va I => Exists.elim I fun rq I => Exists.elim I fun rs I => Exists.elim I fun fi I => Exists.elim I fun sz I => Exists.elim I fun uc I => Exists.elim I fun ur I => Exists.elim I fun uk I => Exists.elim I fun uv I => Exists.elim I fun uo I => Exists.elim I fun aq I => Exists.elim I fun ar I => Exists.elim I fun wk I => by
    rw [I.1, I.2.1]
    exact h nd ky wd len jn cp stm fd fc ack N md ch sr hs st lr L pl va rq rs fi sz uc ur uk uv uo aq ar wk I.2.2.1 I.2.2.2.1 I.2.2.2.2
section
variable {nd ky wd len jn cp stm fd fc ack N : Nat} {md ch sr hs st : Nat → Nat} {lr : Int32} {L : Nat → cr_E} {pl va rq rs fi sz uc ur uk uv uo aq ar wk : Nat → Int32}
theorem zz_in {k : Nat} (hP : (pi_P nd ky wd len jn cp stm fd fc ack N md ch sr hs st L pl)) (hD : (cr_D L ky jn cp fd fc sr hs st va rq rs fi sz uc ur uk uv uo)) (hA : (cr_AK L ack aq ar)) : i_Rel k (cr_xs nd ky wd len jn cp lr md pl ch sr va rq rs fi sz uc ur uk uv uo st aq ar) (cr_ys nd ky wd len ack stm fd lr L md ch hs sr wk) :=
  ⟨nd, ky, wd, len, jn, cp, stm, fd, fc, ack, N, md, ch, sr, hs, st, lr, L, pl, va, rq, rs, fi, sz, uc, ur, uk, uv, uo, aq, ar, wk, rfl, rfl, hP, hD, hA⟩
variable {po : Int32 → Prop} {ps : SX → Prop} {pr : Int32 → SX → Prop}
theorem xw_isMember {i : Nat} (hK : (pi_K nd len jn md ch pl)) (hi : i < 6) (h1 : md i = 10 ∨ md i = 20 → po 1) (h0 : md i = 0 ∨ md i = 1 → po 0) : wpX_isMember po (cr_xs nd ky wd len jn cp lr md pl ch sr va rq rs fi sz uc ur uk uv uo st aq ar) (nI i) := by
  have v : vp_in (nI i) 6 := vp_in_nI hi (by decide)
  have m := kk_md hK hi
  have ml := kk_mlt hK hi
  refine And.intro v ?_
  by_cases z : md i = 10
  · exact br_t (nf_t z (by omega)) (h1 (Or.inl z))
  · refine br_f (nf_f (k := 10) z (by omega) ml (by omega)) (And.intro v ?_)
    by_cases y : md i = 20
    · exact br_t (nf_t y (by omega)) (h1 (Or.inr y))
    · exact br_f (nf_f (k := 20) y (by omega) ml (by omega)) (h0 (by omega))
theorem xw_isUp_f {v : Int32} (h : v < 0 ∨ nI nd ≤ v) (hp : po 0) : wpX_isUp po (cr_xs nd ky wd len jn cp lr md pl ch sr va rq rs fi sz uc ur uk uv uo st aq ar) v := by
  unfold wpX_isUp
  exact xw_isNode_f h (br_t rfl hp)
theorem xw_isUp {i : Nat} (hC : (pi_C nd ky wd len)) (hK : (pi_K nd len jn md ch pl)) (hi : i < nd) (h1 : md i = 10 → po 1) (h0 : md i ≠ 10 → po 0) : wpX_isUp po (cr_xs nd ky wd len jn cp lr md pl ch sr va rq rs fi sz uc ur uk uv uo st aq ar) (nI i) := by
  have hn6 : nd ≤ 6 := hC.2.1
  have ml := kk_mlt hK (i := i) (by omega)
  unfold wpX_isUp
  refine xw_isNode_t hi hn6 (br_f (by decide) (And.intro (vp_in_nI (by omega) (by decide)) ?_))
  by_cases z : md i = 10
  · exact br_t (nf_t z (by omega)) (h1 z)
  · exact br_f (nf_f (k := 10) z (by omega) ml (by omega)) (h0 z)
theorem cnt_c (v : Int32) {s h : Nat} (hs : s ≤ 200) (hh : h ≤ 200) : v < nI s ∨ (¬ v < nI s ∧ nI h < v) ∨ ∃ m, s ≤ m ∧ m ≤ h ∧ v = nI m := by
  by_cases z : v < nI s
  · exact Or.inl z
  · by_cases y : nI h < v
    · exact Or.inr (Or.inl ⟨z, y⟩)
    · right; right
      have z' : nI s ≤ v := Int32.not_lt.mp z
      have y' : v ≤ nI h := Int32.not_lt.mp y
      have p : ¬ v < 0 := Int32.not_lt.mpr (Int32.le_trans (nI_pos' (by omega)) z')
      obtain ⟨j, hj, rfl⟩ := nI_of p
      exact ⟨j, (nI_leI (by omega) hj).mp z', (nI_leI hj (by omega)).mp y', rfl⟩
/-- the answer to isKept -/
theorem xw_isKept {i : Nat} {v : Int32} (h : (cr_D L ky jn cp fd fc sr hs st va rq rs fi sz uc ur uk uv uo)) (hi : i < 6) (hj : i ≠ jn) (hh : hs i ≤ 200) (h0 : v < nI (sr i) ∨ nI (hs i) < v → po 0) (h1 : ∀ m, sr i ≤ m → m ≤ hs i → v = nI m → po 1) : wpX_isKept po (cr_xs nd ky wd len jn cp lr md pl ch sr va rq rs fi sz uc ur uk uv uo st aq ar) (nI i) v := by
  have hle := (h.1 i hi hj).1
  refine And.intro (vp_in_nI hi (by decide)) ?_
  rw [nf_at (by omega)]
  rcases cnt_c v (s := sr i) (h := hs i) (by omega) hh with z | ⟨z, y⟩ | ⟨m, a, b, e⟩
  · exact br_t z (h0 (Or.inl z))
  · exact br_f z (xw_reach h hi hj (br_t y (h0 (Or.inr y))))
  · subst e
    exact br_f (nI_nlt a (by omega)) (xw_reach h hi hj (br_f (nI_nlt b (by omega)) (h1 m a b rfl)))
end
end
section
theorem i_vc_readValue {k : Nat} {u : SX} {v : SY} (I : i_Rel k u v) (hk : k + 5 ≤ 2564) : wpX_readValue (fun r => wpY_readValue (fun r' => r' = r ∧ i_Rel (k + 5) u v) v) u := by
  refine zz_el (Z := fun u v => wpX_readValue (fun r => wpY_readValue (fun r' => r' = r ∧ i_Rel (k + 5) u v) v) u) ?_ I
  intro nd ky wd len jn cp stm fd fc ack N md ch sr hs st lr L pl va rq rs fi sz uc ur uk uv uo aq ar wk hP hD hA
  exact ⟨rfl, zz_in hP hD hA⟩
theorem i_vc_status {k : Nat} {u : SX} {v : SY} (I : i_Rel k u v) (hk : k + 5 ≤ 2564) (v1 : Int32) : wpX_status (fun r => wpY_status (fun r' => r' = r ∧ i_Rel (k + 5) u v) v v1) u v1 := by
  refine zz_el (Z := fun u v => wpX_status (fun r => wpY_status (fun r' => r' = r ∧ i_Rel (k + 5) u v) v v1) u v1) ?_ I
  intro nd ky wd len jn cp stm fd fc ack N md ch sr hs st lr L pl va rq rs fi sz uc ur uk uv uo aq ar wk hP hD hA
  have R : i_Rel (k + 5) (cr_xs nd ky wd len jn cp lr md pl ch sr va rq rs fi sz uc ur uk uv uo st aq ar) (cr_ys nd ky wd len ack stm fd lr L md ch hs sr wk) := zz_in hP hD hA
  obtain ⟨hC, hK, hH, hL, hT⟩ := hP
  have hn6 : nd ≤ 6 := hC.2.1
  unfold wpX_status
  rcases pk_ix v1 (n := nd) (by omega) with z | z | ⟨i, hi, e⟩
  · refine xw_isNode_f (Or.inl z) (br_t rfl ?_)
    unfold wpY_status
    exact yw_noNode_t (Or.inl z) (br_f (by decide) ⟨rfl, R⟩)
  · refine xw_isNode_f (Or.inr z) (br_t rfl ?_)
    unfold wpY_status
    exact yw_noNode_t (Or.inr z) (br_f (by decide) ⟨rfl, R⟩)
  · subst e
    have v : vp_in (nI i) 6 := vp_in_nI (by omega) (by decide)
    have ml := kk_mlt hK (i := i) (by omega)
    refine xw_isNode_t hi hn6 (br_f (by decide) ?_)
    refine xw_isMember hK (by omega) (fun z => ?_) (fun z => ?_)
    · refine br_f (by decide) (And.intro v (And.intro v ?_))
      unfold wpY_status
      obtain ⟨p, hp, e, hpl⟩ := kk_mem hK (i := i) (by omega) z
      subst e
      refine yw_noNode_f hi hn6 (br_t rfl (And.intro v (br_f (nf_f (k := 0) (by omega) (by omega) ml (by omega)) (And.intro v (br_f (nf_f (k := 1) (by omega) (by omega) ml (by omega)) (And.intro v ?_))))))
      refine yw_place hC hK hp ⟨?_, R⟩
      rw [nI_clamp (n := ch p) (by omega), hpl]
    · refine br_t rfl (And.intro v ?_)
      unfold wpY_status
      refine yw_noNode_f hi hn6 (br_t rfl (And.intro v ?_))
      rcases z with z | z
      · exact br_t (nf_t (k := 0) z (by omega)) (And.intro v ⟨rfl, R⟩)
      · exact br_f (nf_f (k := 0) (by omega) (by omega) ml (by omega)) (And.intro v (br_t (nf_t (k := 1) z (by omega)) (And.intro v ⟨rfl, R⟩)))
theorem i_vc_applied {k : Nat} {u : SX} {v : SY} (I : i_Rel k u v) (hk : k + 5 ≤ 2564) (v1 : Int32) : wpX_applied (fun r => wpY_applied (fun r' => r' = r ∧ i_Rel (k + 5) u v) v v1) u v1 := by
  refine zz_el (Z := fun u v => wpX_applied (fun r => wpY_applied (fun r' => r' = r ∧ i_Rel (k + 5) u v) v v1) u v1) ?_ I
  intro nd ky wd len jn cp stm fd fc ack N md ch sr hs st lr L pl va rq rs fi sz uc ur uk uv uo aq ar wk hP hD hA
  have R : i_Rel (k + 5) (cr_xs nd ky wd len jn cp lr md pl ch sr va rq rs fi sz uc ur uk uv uo st aq ar) (cr_ys nd ky wd len ack stm fd lr L md ch hs sr wk) := zz_in hP hD hA
  obtain ⟨hC, hK, hH, hL, hT⟩ := hP
  have hn6 : nd ≤ 6 := hC.2.1
  have bad : v1 < 0 ∨ nI nd ≤ v1 → wpX_applied (fun r => wpY_applied (fun r' => r' = r ∧ i_Rel (k + 5) (cr_xs nd ky wd len jn cp lr md pl ch sr va rq rs fi sz uc ur uk uv uo st aq ar) (cr_ys nd ky wd len ack stm fd lr L md ch hs sr wk)) (cr_ys nd ky wd len ack stm fd lr L md ch hs sr wk) v1) (cr_xs nd ky wd len jn cp lr md pl ch sr va rq rs fi sz uc ur uk uv uo st aq ar) v1 := fun z => by
    unfold wpX_applied
    refine xw_isUp_f z (br_t rfl ?_)
    unfold wpY_applied
    exact yw_notUp_t z (br_f (by decide) ⟨rfl, R⟩)
  rcases pk_ix v1 (n := nd) (by omega) with z | z | ⟨i, hi, e⟩
  · exact bad (Or.inl z)
  · exact bad (Or.inr z)
  · subst e
    have v : vp_in (nI i) 6 := vp_in_nI (by omega) (by decide)
    unfold wpX_applied
    refine xw_isUp hC hK hi (fun z => ?_) (fun z => ?_)
    · have hj : i ≠ jn := fun y => by have := hK.2.1 (by omega); rw [← y] at this; omega
      refine br_f (by decide) (xw_reach hD (by omega) hj ?_)
      unfold wpY_applied
      exact yw_notUp hC hK hi (fun _ => br_t rfl (And.intro v ⟨nf_at (by omega), R⟩)) (fun y => absurd z y)
    · refine br_t rfl ?_
      unfold wpY_applied
      exact yw_notUp hC hK hi (fun y => absurd y z) (fun _ => br_f (by decide) ⟨rfl, R⟩)
theorem i_vc_stable {k : Nat} {u : SX} {v : SY} (I : i_Rel k u v) (hk : k + 5 ≤ 2564) (v1 : Int32) : wpX_stable (fun r => wpY_stable (fun r' => r' = r ∧ i_Rel (k + 5) u v) v v1) u v1 := by
  refine zz_el (Z := fun u v => wpX_stable (fun r => wpY_stable (fun r' => r' = r ∧ i_Rel (k + 5) u v) v v1) u v1) ?_ I
  intro nd ky wd len jn cp stm fd fc ack N md ch sr hs st lr L pl va rq rs fi sz uc ur uk uv uo aq ar wk hP hD hA
  have R : i_Rel (k + 5) (cr_xs nd ky wd len jn cp lr md pl ch sr va rq rs fi sz uc ur uk uv uo st aq ar) (cr_ys nd ky wd len ack stm fd lr L md ch hs sr wk) := zz_in hP hD hA
  obtain ⟨hC, hK, hH, hL, hT⟩ := hP
  have hn6 : nd ≤ 6 := hC.2.1
  have bad : v1 < 0 ∨ nI nd ≤ v1 → wpX_stable (fun r => wpY_stable (fun r' => r' = r ∧ i_Rel (k + 5) (cr_xs nd ky wd len jn cp lr md pl ch sr va rq rs fi sz uc ur uk uv uo st aq ar) (cr_ys nd ky wd len ack stm fd lr L md ch hs sr wk)) (cr_ys nd ky wd len ack stm fd lr L md ch hs sr wk) v1) (cr_xs nd ky wd len jn cp lr md pl ch sr va rq rs fi sz uc ur uk uv uo st aq ar) v1 := fun z => by
    unfold wpX_stable
    refine xw_isUp_f z (br_t rfl ?_)
    unfold wpY_stable
    exact yw_notUp_t z (br_f (by decide) ⟨rfl, R⟩)
  rcases pk_ix v1 (n := nd) (by omega) with z | z | ⟨i, hi, e⟩
  · exact bad (Or.inl z)
  · exact bad (Or.inr z)
  · subst e
    have v : vp_in (nI i) 6 := vp_in_nI (by omega) (by decide)
    unfold wpX_stable
    refine xw_isUp hC hK hi (fun z => ?_) (fun z => ?_)
    · refine br_f (by decide) (And.intro v ?_)
      unfold wpY_stable
      exact yw_notUp hC hK hi (fun _ => br_t rfl (And.intro v ⟨rfl, R⟩)) (fun y => absurd z y)
    · refine br_t rfl ?_
      unfold wpY_stable
      exact yw_notUp hC hK hi (fun y => absurd y z) (fun _ => br_f (by decide) ⟨rfl, R⟩)
theorem i_vc_copied {k : Nat} {u : SX} {v : SY} (I : i_Rel k u v) (hk : k + 5 ≤ 2564) : wpX_copied (fun r => wpY_copied (fun r' => r' = r ∧ i_Rel (k + 5) u v) v) u := by
  refine zz_el (Z := fun u v => wpX_copied (fun r => wpY_copied (fun r' => r' = r ∧ i_Rel (k + 5) u v) v) u) ?_ I
  intro nd ky wd len jn cp stm fd fc ack N md ch sr hs st lr L pl va rq rs fi sz uc ur uk uv uo aq ar wk hP hD hA
  have R : i_Rel (k + 5) (cr_xs nd ky wd len jn cp lr md pl ch sr va rq rs fi sz uc ur uk uv uo st aq ar) (cr_ys nd ky wd len ack stm fd lr L md ch hs sr wk) := zz_in hP hD hA
  obtain ⟨hC, hK, hH, hL, hT⟩ := hP
  have hjn := hK.1
  by_cases z : jn < 6
  · refine br_t ((ji_nn hjn).mpr z) ?_
    unfold wpY_copied
    exact yw_hj hC hK (fun _ => br_f (by decide) ⟨by rw [hT.2.2.2.1 z], R⟩) (fun y => by omega)
  · refine br_f (fun y => z ((ji_nn hjn).mp y)) ?_
    unfold wpY_copied
    exact yw_hj hC hK (fun y => absurd y z) (fun _ => br_t rfl ⟨rfl, R⟩)
theorem i_vc_backlog {k : Nat} {u : SX} {v : SY} (I : i_Rel k u v) (hk : k + 5 ≤ 2564) : wpX_backlog (fun r => wpY_backlog (fun r' => r' = r ∧ i_Rel (k + 5) u v) v) u := by
  refine zz_el (Z := fun u v => wpX_backlog (fun r => wpY_backlog (fun r' => r' = r ∧ i_Rel (k + 5) u v) v) u) ?_ I
  intro nd ky wd len jn cp stm fd fc ack N md ch sr hs st lr L pl va rq rs fi sz uc ur uk uv uo aq ar wk hP hD hA
  have R : i_Rel (k + 5) (cr_xs nd ky wd len jn cp lr md pl ch sr va rq rs fi sz uc ur uk uv uo st aq ar) (cr_ys nd ky wd len ack stm fd lr L md ch hs sr wk) := zz_in hP hD hA
  obtain ⟨hC, hK, hH, hL, hT⟩ := hP
  have hjn := hK.1
  have hl1 : 1 ≤ len := hC.2.2.2.2.2.2.1
  have t6 := kk_lt hK hC (p := len - 1) (by omega)
  have v : vp_in (nI (ch (len - 1))) 6 := vp_in_nI t6 (by decide)
  have tm := kk_mlt hK t6
  by_cases z : jn < 6
  · refine br_f (fun y => by have := (ji_neg hjn).mp y; omega) ?_
    refine xw_tailIsUp hC hK (fun y => ?_) (fun y => ?_)
    · refine br_f (by decide) ?_
      unfold wpY_backlog
      refine yw_tail hC ?_
      refine yw_hj hC hK (fun _ => br_f (by decide) (And.intro v (br_t (nf_t y (by omega)) (And.intro v ⟨?_, R⟩)))) (fun y => by omega)
      have h5 := (hT.2.2.2.2.1 z y).1
      have e6 : sz 6 = nI fc := hD.2.2.2.1
      rw [nf_at (by omega), ← h5, e6, pk_sub (by omega), show fd + fc - fd = fc by omega]
    · refine br_t rfl ?_
      unfold wpY_backlog
      refine yw_tail hC ?_
      exact yw_hj hC hK (fun _ => br_f (by decide) (And.intro v (br_f (nf_f (k := 10) y (by omega) tm (by omega)) ⟨rfl, R⟩))) (fun y => by omega)
  · refine br_t ((ji_neg hjn).mpr (by omega)) ?_
    unfold wpY_backlog
    refine yw_tail hC ?_
    exact yw_hj hC hK (fun y => absurd y z) (fun _ => br_t rfl ⟨rfl, R⟩)
end
section
section
variable {nd ky wd len jn cp stm fd fc ack N : Nat} {md ch sr hs st : Nat → Nat} {lr : Int32} {L : Nat → cr_E} {pl va rq rs fi sz uc ur uk uv uo aq ar wk : Nat → Int32}
theorem gt_j (hK : (pi_K nd len jn md ch pl)) {i : Nat} (hi : i < 6) (hm : md i = 10 ∨ md i = 20) : i ≠ jn := fun y => by
  have := hK.2.1 (by omega)
  rw [← y] at this
  omega
end
theorem i_vc_version {k : Nat} {u : SX} {v : SY} (I : i_Rel k u v) (hk : k + 5 ≤ 2564) (v1 : Int32) (v2 : Int32) (v3 : Int32) : wpX_version (fun r => wpY_version (fun r' v' => r' = r ∧ i_Rel (k + 5) u v') v v1 v2 v3) u v1 v2 v3 := by
  refine zz_el (Z := fun u v => wpX_version (fun r => wpY_version (fun r' v' => r' = r ∧ i_Rel (k + 5) u v') v v1 v2 v3) u v1 v2 v3) ?_ I
  intro nd ky wd len jn cp stm fd fc ack N md ch sr hs st lr L pl va rq rs fi sz uc ur uk uv uo aq ar wk hP hD hA
  have R : ∀ wk, i_Rel (k + 5) (cr_xs nd ky wd len jn cp lr md pl ch sr va rq rs fi sz uc ur uk uv uo st aq ar) (cr_ys nd ky wd len ack stm fd lr L md ch hs sr wk) := fun wk => zz_in hP hD hA
  obtain ⟨hC, hK, hH, hL, hT⟩ := hP
  have hn6 : nd ≤ 6 := hC.2.1
  have hky : ky ≤ 8 := hC.2.2.2.1
  have hN := hH.1
  unfold wpX_version
  have bad : v1 < 0 ∨ nI nd ≤ v1 → wpY_version (fun r' v' => r' = 0 ∧ i_Rel (k + 5) (cr_xs nd ky wd len jn cp lr md pl ch sr va rq rs fi sz uc ur uk uv uo st aq ar) v') (cr_ys nd ky wd len ack stm fd lr L md ch hs sr wk) v1 v2 v3 := fun z => by
    unfold wpY_version
    exact yw_notUp_t z (br_f (by decide) ⟨rfl, R wk⟩)
  rcases pk_ix v1 (n := nd) (by omega) with z | z | ⟨i, hi, e⟩
  · exact xw_isUp_f (Or.inl z) (br_t rfl (bad (Or.inl z)))
  · exact xw_isUp_f (Or.inr z) (br_t rfl (bad (Or.inr z)))
  · subst e
    have v : vp_in (nI i) 6 := vp_in_nI (by omega) (by decide)
    refine xw_isUp hC hK hi (fun z => ?_) (fun z => ?_)
    · refine br_f (by decide) ?_
      have hj := gt_j hK (i := i) (by omega) (Or.inl z)
      obtain ⟨a1, a2, a3⟩ := hh_200 hH (i := i) (by omega)
      have hsN := (hH.2.1 i (by omega)).2.1
      have badk : v2 < 0 ∨ nI ky ≤ v2 → wpY_version (fun r' v' => r' = 0 ∧ i_Rel (k + 5) (cr_xs nd ky wd len jn cp lr md pl ch sr va rq rs fi sz uc ur uk uv uo st aq ar) v') (cr_ys nd ky wd len ack stm fd lr L md ch hs sr wk) (nI i) v2 v3 := fun y => by
        unfold wpY_version
        exact yw_notUp hC hK hi (fun _ => br_t rfl (yw_noKey_t y (br_f (by decide) ⟨rfl, R wk⟩))) (fun y => absurd z y)
      rcases pk_ix v2 (n := ky) (by omega) with y | y | ⟨q, hq, e⟩
      · exact xw_isKey_f (Or.inl y) (br_t rfl (badk (Or.inl y)))
      · exact xw_isKey_f (Or.inr y) (br_t rfl (badk (Or.inr y)))
      · subst e
        refine xw_isKey_t hq hky (br_f (by decide) ?_)
        refine xw_isKept hD (by omega) hj a2 (fun y => ?_) (fun m m1 m2 e => ?_)
        · refine br_t rfl ?_
          unfold wpY_version
          refine yw_notUp hC hK hi (fun _ => br_t rfl (yw_noKey_f hq hky (br_t rfl (And.intro v ?_)))) (fun y => absurd z y)
          rw [nf_at (by omega), nf_at (by omega)]
          by_cases x : v3 < nI (sr i)
          · exact br_t x ⟨rfl, R wk⟩
          · exact br_f x (And.intro v (br_f (Int32.not_le.mpr (y.resolve_left x)) ⟨rfl, R wk⟩))
        · subst e
          refine br_f (by decide) (And.intro v ?_)
          rw [nf_at (by omega), pk_sub m1]
          refine xw_value hD hL (by omega) hj hky hq (by omega) hsN ?_
          rw [show sr i + (m - sr i) = m by omega]
          unfold wpY_version
          refine yw_notUp hC hK hi (fun _ => br_t rfl (yw_noKey_f hq hky (br_t rfl (And.intro v ?_)))) (fun y => absurd z y)
          rw [nf_at (by omega), nf_at (by omega)]
          refine br_f (nI_nlt m1 (by omega)) (And.intro v (br_t (nI_le m2 (by omega)) ?_))
          exact yw_value hL (by omega) hN hky hq (fun wk' => ⟨rfl, R wk'⟩)
    · refine br_t rfl ?_
      unfold wpY_version
      exact yw_notUp hC hK hi (fun y => absurd y z) (fun _ => br_f (by decide) ⟨rfl, R wk⟩)
theorem i_vc_dirty {k : Nat} {u : SX} {v : SY} (I : i_Rel k u v) (hk : k + 5 ≤ 2564) (v1 : Int32) (v2 : Int32) (v3 : Int32) : wpX_dirty (fun r => wpY_dirty (fun r' => r' = r ∧ i_Rel (k + 5) u v) v v1 v2 v3) u v1 v2 v3 := by
  refine zz_el (Z := fun u v => wpX_dirty (fun r => wpY_dirty (fun r' => r' = r ∧ i_Rel (k + 5) u v) v v1 v2 v3) u v1 v2 v3) ?_ I
  intro nd ky wd len jn cp stm fd fc ack N md ch sr hs st lr L pl va rq rs fi sz uc ur uk uv uo aq ar wk hP hD hA
  have R : i_Rel (k + 5) (cr_xs nd ky wd len jn cp lr md pl ch sr va rq rs fi sz uc ur uk uv uo st aq ar) (cr_ys nd ky wd len ack stm fd lr L md ch hs sr wk) := zz_in hP hD hA
  obtain ⟨hC, hK, hH, hL, hT⟩ := hP
  have hn6 : nd ≤ 6 := hC.2.1
  have hky : ky ≤ 8 := hC.2.2.2.1
  have hN := hH.1
  unfold wpX_dirty
  have bad : v1 < 0 ∨ nI nd ≤ v1 → wpY_dirty (fun r' => r' = -1 ∧ i_Rel (k + 5) (cr_xs nd ky wd len jn cp lr md pl ch sr va rq rs fi sz uc ur uk uv uo st aq ar) (cr_ys nd ky wd len ack stm fd lr L md ch hs sr wk)) (cr_ys nd ky wd len ack stm fd lr L md ch hs sr wk) v1 v2 v3 := fun z => by
    unfold wpY_dirty
    exact yw_notUp_t z (br_f (by decide) ⟨rfl, R⟩)
  rcases pk_ix v1 (n := nd) (by omega) with z | z | ⟨i, hi, e⟩
  · exact xw_isUp_f (Or.inl z) (br_t rfl (bad (Or.inl z)))
  · exact xw_isUp_f (Or.inr z) (br_t rfl (bad (Or.inr z)))
  · subst e
    have v : vp_in (nI i) 6 := vp_in_nI (by omega) (by decide)
    refine xw_isUp hC hK hi (fun z => ?_) (fun z => ?_)
    · refine br_f (by decide) ?_
      have hj := gt_j hK (i := i) (by omega) (Or.inl z)
      obtain ⟨a1, a2, a3⟩ := hh_200 hH (i := i) (by omega)
      have hsN := (hH.2.1 i (by omega)).2.1
      have badk : v2 < 0 ∨ nI ky ≤ v2 → wpY_dirty (fun r' => r' = -1 ∧ i_Rel (k + 5) (cr_xs nd ky wd len jn cp lr md pl ch sr va rq rs fi sz uc ur uk uv uo st aq ar) (cr_ys nd ky wd len ack stm fd lr L md ch hs sr wk)) (cr_ys nd ky wd len ack stm fd lr L md ch hs sr wk) (nI i) v2 v3 := fun y => by
        unfold wpY_dirty
        exact yw_notUp hC hK hi (fun _ => br_t rfl (yw_noKey_t y (br_f (by decide) ⟨rfl, R⟩))) (fun y => absurd z y)
      rcases pk_ix v2 (n := ky) (by omega) with y | y | ⟨q, hq, e⟩
      · exact xw_isKey_f (Or.inl y) (br_t rfl (badk (Or.inl y)))
      · exact xw_isKey_f (Or.inr y) (br_t rfl (badk (Or.inr y)))
      · subst e
        refine xw_isKey_t hq hky (br_f (by decide) ?_)
        refine xw_isKept hD (by omega) hj a2 (fun y => ?_) (fun m m1 m2 e => ?_)
        · refine br_t rfl ?_
          unfold wpY_dirty
          refine yw_notUp hC hK hi (fun _ => br_t rfl (yw_noKey_f hq hky (br_t rfl (And.intro v ?_)))) (fun y => absurd z y)
          rw [nf_at (by omega), nf_at (by omega)]
          by_cases x : v3 < nI (sr i)
          · exact br_t x ⟨rfl, R⟩
          · exact br_f x (And.intro v (br_f (Int32.not_le.mpr (y.resolve_left x)) ⟨rfl, R⟩))
        · subst e
          obtain ⟨hle, hS, g1, g2, f, hf, ef, hat⟩ := hD.1 i (by omega) hj
          refine br_f (by decide) (And.intro v (nm_r (e' := nI (m - sr i)) (by rw [nf_at (by omega), pk_sub m1]) ⟨m - sr i + 1, ?_⟩))
          refine xl_dirty (b := sr i) (m0 := m - sr i) (by omega) hf ef (fun j hj => hat j (by omega)) (fun j hj => (hL (sr i + j) (by omega)).1) hky (by omega) (by omega) ?_ (m - sr i) 0 (by omega)
          unfold wpY_dirty
          refine yw_notUp hC hK hi (fun _ => br_t rfl (yw_noKey_f hq hky (br_t rfl (And.intro v ?_)))) (fun y => absurd z y)
          rw [nf_at (by omega), nf_at (by omega)]
          refine br_f (nI_nlt m1 (by omega)) (And.intro v (br_t (nI_le m2 (by omega)) (And.intro v ?_)))
          exact yw_tch hL m1 (by omega) hN hky hq ⟨rfl, R⟩
    · refine br_t rfl ?_
      unfold wpY_dirty
      exact yw_notUp hC hK hi (fun y => absurd y z) (fun _ => br_f (by decide) ⟨rfl, R⟩)
theorem i_vc_requestAt {k : Nat} {u : SX} {v : SY} (I : i_Rel k u v) (hk : k + 5 ≤ 2564) (v1 : Int32) (v2 : Int32) (v3 : Int32) : wpX_requestAt (fun r => wpY_requestAt (fun r' => r' = r ∧ i_Rel (k + 5) u v) v v1 v2 v3) u v1 v2 v3 := by
  refine zz_el (Z := fun u v => wpX_requestAt (fun r => wpY_requestAt (fun r' => r' = r ∧ i_Rel (k + 5) u v) v v1 v2 v3) u v1 v2 v3) ?_ I
  intro nd ky wd len jn cp stm fd fc ack N md ch sr hs st lr L pl va rq rs fi sz uc ur uk uv uo aq ar wk hP hD hA
  have R : i_Rel (k + 5) (cr_xs nd ky wd len jn cp lr md pl ch sr va rq rs fi sz uc ur uk uv uo st aq ar) (cr_ys nd ky wd len ack stm fd lr L md ch hs sr wk) := zz_in hP hD hA
  obtain ⟨hC, hK, hH, hL, hT⟩ := hP
  have hn6 : nd ≤ 6 := hC.2.1
  have hN := hH.1
  unfold wpX_requestAt
  have bad : v1 < 0 ∨ nI nd ≤ v1 → wpY_requestAt (fun r' => r' = -1 ∧ i_Rel (k + 5) (cr_xs nd ky wd len jn cp lr md pl ch sr va rq rs fi sz uc ur uk uv uo st aq ar) (cr_ys nd ky wd len ack stm fd lr L md ch hs sr wk)) (cr_ys nd ky wd len ack stm fd lr L md ch hs sr wk) v1 v2 v3 := fun z => by
    unfold wpY_requestAt
    exact yw_notUp_t z (br_f (by decide) ⟨rfl, R⟩)
  rcases pk_ix v1 (n := nd) (by omega) with z | z | ⟨i, hi, e⟩
  · exact xw_isUp_f (Or.inl z) (br_t rfl (bad (Or.inl z)))
  · exact xw_isUp_f (Or.inr z) (br_t rfl (bad (Or.inr z)))
  · subst e
    have v : vp_in (nI i) 6 := vp_in_nI (by omega) (by decide)
    refine xw_isUp hC hK hi (fun z => ?_) (fun z => ?_)
    · refine br_f (by decide) ?_
      have hj := gt_j hK (i := i) (by omega) (Or.inl z)
      obtain ⟨a1, a2, a3⟩ := hh_200 hH (i := i) (by omega)
      have hsN := (hH.2.1 i (by omega)).2.1
      have badk : v2 < 0 ∨ nI 4 ≤ v2 → wpY_requestAt (fun r' => r' = -1 ∧ i_Rel (k + 5) (cr_xs nd ky wd len jn cp lr md pl ch sr va rq rs fi sz uc ur uk uv uo st aq ar) (cr_ys nd ky wd len ack stm fd lr L md ch hs sr wk)) (cr_ys nd ky wd len ack stm fd lr L md ch hs sr wk) (nI i) v2 v3 := fun y => by
        unfold wpY_requestAt
        exact yw_notUp hC hK hi (fun _ => br_t rfl (yw_noClient_t y (br_f (by decide) ⟨rfl, R⟩))) (fun y => absurd z y)
      rcases pk_ix v2 (n := 4) (by omega) with y | y | ⟨q, hq, e⟩
      · exact xw_isClient_f (Or.inl y) (br_t rfl (badk (Or.inl y)))
      · exact xw_isClient_f (Or.inr y) (br_t rfl (badk (Or.inr y)))
      · subst e
        refine xw_isClient_t hq (br_f (by decide) ?_)
        refine xw_isKept hD (by omega) hj a2 (fun y => ?_) (fun m m1 m2 e => ?_)
        · refine br_t rfl ?_
          unfold wpY_requestAt
          refine yw_notUp hC hK hi (fun _ => br_t rfl (yw_noClient_f hq (br_t rfl (And.intro v ?_)))) (fun y => absurd z y)
          rw [nf_at (by omega), nf_at (by omega)]
          by_cases x : v3 < nI (sr i)
          · exact br_t x ⟨rfl, R⟩
          · exact br_f x (And.intro v (br_f (Int32.not_le.mpr (y.resolve_left x)) ⟨rfl, R⟩))
        · subst e
          refine br_f (by decide) (And.intro v ?_)
          rw [nf_at (by omega), pk_sub m1]
          refine xw_request hD hL (by omega) hj hq (by omega) hsN ?_
          rw [show sr i + (m - sr i) = m by omega]
          unfold wpY_requestAt
          refine yw_notUp hC hK hi (fun _ => br_t rfl (yw_noClient_f hq (br_t rfl (And.intro v ?_)))) (fun y => absurd z y)
          rw [nf_at (by omega), nf_at (by omega)]
          refine br_f (nI_nlt m1 (by omega)) (And.intro v (br_t (nI_le m2 (by omega)) ?_))
          refine yw_last hL (by omega) hN hq ?_
          rcases cr_lo_c L q m with ⟨b1, b2, b3, b4⟩ | ⟨j, b1, b2, b3, b4, b5, b6⟩
          · rw [b1, b2]
            exact br_f (by decide) ⟨rfl, R⟩
          · rw [b2, b4]
            refine br_t (nI_pos' (by omega)) (And.intro (vp_in_nI (by omega) (by decide)) ⟨?_, R⟩)
            rw [nI_clamp (by omega)]
    · refine br_t rfl ?_
      unfold wpY_requestAt
      exact yw_notUp hC hK hi (fun y => absurd y z) (fun _ => br_f (by decide) ⟨rfl, R⟩)
theorem i_vc_ackedRequest {k : Nat} {u : SX} {v : SY} (I : i_Rel k u v) (hk : k + 5 ≤ 2564) (v1 : Int32) : wpX_ackedRequest (fun r => wpY_ackedRequest (fun r' => r' = r ∧ i_Rel (k + 5) u v) v v1) u v1 := by
  refine zz_el (Z := fun u v => wpX_ackedRequest (fun r => wpY_ackedRequest (fun r' => r' = r ∧ i_Rel (k + 5) u v) v v1) u v1) ?_ I
  intro nd ky wd len jn cp stm fd fc ack N md ch sr hs st lr L pl va rq rs fi sz uc ur uk uv uo aq ar wk hP hD hA
  have R : i_Rel (k + 5) (cr_xs nd ky wd len jn cp lr md pl ch sr va rq rs fi sz uc ur uk uv uo st aq ar) (cr_ys nd ky wd len ack stm fd lr L md ch hs sr wk) := zz_in hP hD hA
  obtain ⟨hC, hK, hH, hL, hT⟩ := hP
  have hN := hH.1
  have ha := hh_ack hH
  unfold wpX_ackedRequest
  have bad : v1 < 0 ∨ nI 4 ≤ v1 → wpY_ackedRequest (fun r' => r' = -1 ∧ i_Rel (k + 5) (cr_xs nd ky wd len jn cp lr md pl ch sr va rq rs fi sz uc ur uk uv uo st aq ar) (cr_ys nd ky wd len ack stm fd lr L md ch hs sr wk)) (cr_ys nd ky wd len ack stm fd lr L md ch hs sr wk) v1 := fun z => by
    unfold wpY_ackedRequest
    exact yw_noClient_t z (br_f (by decide) ⟨rfl, R⟩)
  rcases pk_ix v1 (n := 4) (by omega) with z | z | ⟨i, hi, e⟩
  · exact xw_isClient_f (Or.inl z) (br_t rfl (bad (Or.inl z)))
  · exact xw_isClient_f (Or.inr z) (br_t rfl (bad (Or.inr z)))
  · subst e
    refine xw_isClient_t hi (br_f (by decide) (And.intro (vp_in_nI hi (by decide)) ?_))
    unfold wpY_ackedRequest
    refine yw_noClient_f hi (br_t rfl ?_)
    refine yw_last hL ha.1 hN hi ?_
    rw [nI_clamp (by omega), (hA i hi).1]
    rcases cr_lo_c L i ack with ⟨b1, b2, b3, b4⟩ | ⟨j, b1, b2, b3, b4, b5, b6⟩
    · rw [b1, b2]
      exact br_f (by decide) ⟨rfl, R⟩
    · rw [b2, b4]
      refine br_t (nI_pos' (by omega)) (And.intro (vp_in_nI (by omega) (by decide)) ⟨?_, R⟩)
      rw [nI_clamp (by omega)]
theorem i_vc_ackedValue {k : Nat} {u : SX} {v : SY} (I : i_Rel k u v) (hk : k + 5 ≤ 2564) (v1 : Int32) : wpX_ackedValue (fun r => wpY_ackedValue (fun r' v' => r' = r ∧ i_Rel (k + 5) u v') v v1) u v1 := by
  refine zz_el (Z := fun u v => wpX_ackedValue (fun r => wpY_ackedValue (fun r' v' => r' = r ∧ i_Rel (k + 5) u v') v v1) u v1) ?_ I
  intro nd ky wd len jn cp stm fd fc ack N md ch sr hs st lr L pl va rq rs fi sz uc ur uk uv uo aq ar wk hP hD hA
  have R : ∀ wk, i_Rel (k + 5) (cr_xs nd ky wd len jn cp lr md pl ch sr va rq rs fi sz uc ur uk uv uo st aq ar) (cr_ys nd ky wd len ack stm fd lr L md ch hs sr wk) := fun wk => zz_in hP hD hA
  obtain ⟨hC, hK, hH, hL, hT⟩ := hP
  have hN := hH.1
  have hky : ky ≤ 8 := hC.2.2.2.1
  have ha := hh_ack hH
  unfold wpX_ackedValue
  have bad : v1 < 0 ∨ nI 4 ≤ v1 → wpY_ackedValue (fun r' v' => r' = 0 ∧ i_Rel (k + 5) (cr_xs nd ky wd len jn cp lr md pl ch sr va rq rs fi sz uc ur uk uv uo st aq ar) v') (cr_ys nd ky wd len ack stm fd lr L md ch hs sr wk) v1 := fun z => by
    unfold wpY_ackedValue
    exact yw_noClient_t z (br_f (by decide) ⟨rfl, R wk⟩)
  rcases pk_ix v1 (n := 4) (by omega) with z | z | ⟨i, hi, e⟩
  · exact xw_isClient_f (Or.inl z) (br_t rfl (bad (Or.inl z)))
  · exact xw_isClient_f (Or.inr z) (br_t rfl (bad (Or.inr z)))
  · subst e
    refine xw_isClient_t hi (br_f (by decide) (And.intro (vp_in_nI hi (by decide)) ?_))
    unfold wpY_ackedValue
    refine yw_noClient_f hi (br_t rfl ?_)
    refine yw_last hL ha.1 hN hi ?_
    rw [nI_clamp (n := i) (by omega), (hA i hi).2]
    rcases cr_lo_c L i ack with ⟨b1, b2, b3, b4⟩ | ⟨j, b1, b2, b3, b4, b5, b6⟩
    · rw [b1, b3]
      exact br_f (by decide) ⟨rfl, R wk⟩
    · rw [b2, b5]
      have w4 : cr_ta L j < ky := (hL j (by omega)).1.2.2.2.1
      refine br_t (nI_pos' (by omega)) (And.intro (vp_in_nI (by omega) (by decide)) ?_)
      rw [nf_at (by omega), nI_1]
      exact yw_value hL (by omega) hN hky w4 (fun wk' => ⟨rfl, R wk'⟩)
end
section
section
variable {nd ky wd len jn cp stm fd fc ack N : Nat} {md ch sr hs st : Nat → Nat} {lr : Int32} {L : Nat → cr_E} {pl va rq rs fi sz uc ur uk uv uo aq ar wk : Nat → Int32}
theorem hh_tl (hC : (pi_C nd ky wd len)) (hK : (pi_K nd len jn md ch pl)) (hH : (pi_H wd len ack N md ch sr hs)) {i : Nat} (hi : i < 6) (hu : md i = 10) (ht : md (ch (len - 1)) = 10) : sr i ≤ hs (ch (len - 1)) ∧ hs (ch (len - 1)) ≤ hs i := by
  have hl1 : 1 ≤ len := hC.2.2.2.2.2.2.1
  obtain ⟨p, hp, e, _⟩ := kk_mem hK hi (Or.inl hu)
  have t6 := kk_lt hK hC (p := len - 1) (by omega)
  by_cases z : p = len - 1
  · rw [← z, e]
    have := (hH.2.1 i hi).1
    omega
  · have := hH.2.2.1 p (len - 1) (by omega) (by omega) (by rw [e]; exact hu) ht
    rw [e] at this
    have h2 := (hH.2.1 _ t6).1
    omega
end
theorem i_vc_read {k : Nat} {u : SX} {v : SY} (I : i_Rel k u v) (hk : k + 5 ≤ 2564) (v1 : Int32) (v2 : Int32) : wpX_read (fun r u' => wpY_read (fun r' v' => r' = r ∧ i_Rel (k + 5) u' v') v v1 v2) u v1 v2 := by
  refine zz_el (Z := fun u v => wpX_read (fun r u' => wpY_read (fun r' v' => r' = r ∧ i_Rel (k + 5) u' v') v v1 v2) u v1 v2) ?_ I
  intro nd ky wd len jn cp stm fd fc ack N md ch sr hs st lr L pl va rq rs fi sz uc ur uk uv uo aq ar wk hP hD hA
  have R : ∀ lr wk, i_Rel (k + 5) (cr_xs nd ky wd len jn cp lr md pl ch sr va rq rs fi sz uc ur uk uv uo st aq ar) (cr_ys nd ky wd len ack stm fd lr L md ch hs sr wk) := fun lr wk => zz_in hP hD hA
  obtain ⟨hC, hK, hH, hL, hT⟩ := hP
  have hn6 : nd ≤ 6 := hC.2.1
  have hky : ky ≤ 8 := hC.2.2.2.1
  have hN := hH.1
  have hl1 : 1 ≤ len := hC.2.2.2.2.2.2.1
  have hl2 : len ≤ nd := hC.2.2.2.2.2.2.2
  unfold wpX_read
  have bad : v1 < 0 ∨ nI nd ≤ v1 → wpY_read (fun r' v' => r' = -1 ∧ i_Rel (k + 5) (cr_xs nd ky wd len jn cp lr md pl ch sr va rq rs fi sz uc ur uk uv uo st aq ar) v') (cr_ys nd ky wd len ack stm fd lr L md ch hs sr wk) v1 v2 := fun z => by
    unfold wpY_read
    exact yw_noNode_t z (br_f (by decide) ⟨rfl, R lr wk⟩)
  rcases pk_ix v1 (n := nd) (by omega) with z | z | ⟨i, hi, e⟩
  · exact xw_isNode_f (Or.inl z) (br_t rfl (bad (Or.inl z)))
  · exact xw_isNode_f (Or.inr z) (br_t rfl (bad (Or.inr z)))
  · subst e
    have v : vp_in (nI i) 6 := vp_in_nI (by omega) (by decide)
    have ml := kk_mlt hK (i := i) (by omega)
    refine xw_isNode_t hi hn6 (br_f (by decide) ?_)
    have badk : v2 < 0 ∨ nI ky ≤ v2 → wpY_read (fun r' v' => r' = -1 ∧ i_Rel (k + 5) (cr_xs nd ky wd len jn cp lr md pl ch sr va rq rs fi sz uc ur uk uv uo st aq ar) v') (cr_ys nd ky wd len ack stm fd lr L md ch hs sr wk) (nI i) v2 := fun y => by
      unfold wpY_read
      exact yw_noNode_f hi hn6 (br_t rfl (yw_noKey_t y (br_f (by decide) ⟨rfl, R lr wk⟩)))
    rcases pk_ix v2 (n := ky) (by omega) with y | y | ⟨q, hq, e⟩
    · exact xw_isKey_f (Or.inl y) (br_t rfl (badk (Or.inl y)))
    · exact xw_isKey_f (Or.inr y) (br_t rfl (badk (Or.inr y)))
    · subst e
      refine xw_isKey_t hq hky (br_f (by decide) ?_)
      refine xw_isMember hK (by omega) (fun z => ?_) (fun z => ?_)
      · refine br_f (by decide) (And.intro v ?_)
        rcases Decidable.em (md i = 20) with d | d
        · refine br_t (nf_t d (by omega)) ?_
          unfold wpY_read
          exact yw_noNode_f hi hn6 (br_t rfl (yw_noKey_f hq hky (br_t rfl (And.intro v (br_f (nf_f (k := 0) (by omega) (by omega) ml (by omega)) (And.intro v (br_f (nf_f (k := 1) (by omega) (by omega) ml (by omega)) (And.intro v (br_t (nf_t (k := 20) d (by omega)) ⟨rfl, R lr wk⟩)))))))))
        · have hu : md i = 10 := by omega
          have hj := gt_j hK (i := i) (by omega) (Or.inl hu)
          obtain ⟨a1, a2, a3⟩ := hh_200 hH (i := i) (by omega)
          have hsN := (hH.2.1 i (by omega)).2.1
          refine br_f (nf_f (k := 20) d (by omega) ml (by omega)) (And.intro (vp_in_nI (by omega) (by decide)) ?_)
          have ez : sz (nI i).toNatClampNeg = nI (hs i - sr i) := by rw [nI_clamp (by omega)]; exact (hD.1 i (by omega) hj).2.2.2.1
          rw [ez]
          have YY : ∀ po : Int32 → SY → Prop, (cr_tc L q (sr i) (hs i - sr i) = 0 → ∀ wk', po 3 (cr_ys nd ky wd len ack stm fd (cr_W L (hs i) q) L md ch hs sr wk')) → (cr_tc L q (sr i) (hs i - sr i) ≠ 0 → md (ch (len - 1)) ≠ 10 → po (-3) (cr_ys nd ky wd len ack stm fd lr L md ch hs sr wk)) → (cr_tc L q (sr i) (hs i - sr i) ≠ 0 → md (ch (len - 1)) = 10 → ∀ wk', po 4 (cr_ys nd ky wd len ack stm fd (cr_W L (hs (ch (len - 1))) q) L md ch hs sr wk')) → wpY_read po (cr_ys nd ky wd len ack stm fd lr L md ch hs sr wk) (nI i) (nI q) := by
            intro po y1 y2 y3
            have t6 := kk_lt hK hC (p := len - 1) (by omega)
            have tv : vp_in (nI (ch (len - 1))) 6 := vp_in_nI t6 (by decide)
            have tcl := cr_tc_le L q (sr i) (hs i - sr i)
            unfold wpY_read
            refine yw_noNode_f hi hn6 (br_t rfl (yw_noKey_f hq hky (br_t rfl (And.intro v (br_f (nf_f (k := 0) (by omega) (by omega) ml (by omega)) (And.intro v (br_f (nf_f (k := 1) (by omega) (by omega) ml (by omega)) (And.intro v (br_f (nf_f (k := 20) d (by omega) ml (by omega)) (And.intro v (And.intro v ?_)))))))))))
            rw [nf_at (by omega), nf_at (by omega)]
            refine yw_tch hL a1 hsN hN hky hq ?_
            by_cases x : cr_tc L q (sr i) (hs i - sr i) = 0
            · refine br_t (by rw [x]; rfl) (And.intro v ?_)
              exact yw_value hL hsN hN hky hq (fun wk' => y1 x wk')
            · refine br_f (nI_ne0 (by omega) (by omega)) (yw_tail hC (And.intro tv ?_))
              by_cases w : md (ch (len - 1)) = 10
              · refine br_t (nf_t w (by omega)) (And.intro tv ?_)
                rw [nf_at (by omega)]
                exact yw_value hL ((hH.2.1 _ t6).2.1) hN hky hq (fun wk' => y3 x w wk')
              · exact br_f (nf_f (k := 10) w (by omega) (kk_mlt hK t6) (by omega)) (y2 x w)
          refine xw_newest hD hL (by omega) hj hky hq (Nat.le_refl _) hsN (fun nt => ?_) (fun s j hs56 hjm ha ht hn => ?_)
          · have t0 := (cr_tc_0 (hs i - sr i)).mpr nt
            refine br_f (by decide) (And.intro (by rw [n_m8]; exact vp_in_nI (by omega) (by decide)) (nm_r (e' := cr_W L (hs i) q) ?_ ?_))
            · rw [n_m8, nI_clamp (by omega), (hD.1 i (by omega) hj).2.1.1 q hq, ← cr_W_un (hs i - sr i) nt, show sr i + (hs i - sr i) = hs i by omega]
            · exact YY _ (fun _ wk' => ⟨rfl, R _ wk'⟩) (fun x _ => absurd t0 x) (fun x _ => absurd t0 x)
          · have t1 : cr_tc L q (sr i) (hs i - sr i) ≠ 0 := fun x => (cr_tc_0 (hs i - sr i)).mp x j hjm ht
            refine br_t (nI_pos' (by omega)) ?_
            refine xw_tailIsUp hC hK (fun w => ?_) (fun w => ?_)
            · have t6 := kk_lt hK hC (p := len - 1) (by omega)
              have tj := gt_j hK t6 (Or.inl w)
              obtain ⟨b1, b2⟩ := hh_tl hC hK hH (i := i) (by omega) hu w
              refine br_f (by decide) (And.intro (by rw [n_pred hl1]; exact vp_in_nI (by omega) (by decide)) (nm_r (e' := nI (ch (len - 1))) (by rw [n_pred hl1, nf_at (by omega)]) ?_))
              refine xw_reach hD t6 tj (And.intro v (nm_r (e' := nI (hs (ch (len - 1)) - sr i)) (by rw [nf_at (by omega), pk_sub b1]) ?_))
              refine xw_value hD hL (by omega) hj hky hq (by omega) hsN ?_
              rw [show sr i + (hs (ch (len - 1)) - sr i) = hs (ch (len - 1)) by omega]
              exact YY _ (fun x => absurd x t1) (fun _ y => absurd w y) (fun _ _ wk' => ⟨rfl, R _ wk'⟩)
            · exact br_t rfl (YY _ (fun x => absurd x t1) (fun _ _ => ⟨rfl, R lr wk⟩) (fun _ y => absurd y w))
      · refine br_t rfl ?_
        unfold wpY_read
        refine yw_noNode_f hi hn6 (br_t rfl (yw_noKey_f hq hky (br_t rfl (And.intro v ?_))))
        rcases z with z | z
        · exact br_t (nf_t (k := 0) z (by omega)) ⟨rfl, R lr wk⟩
        · exact br_f (nf_f (k := 0) (by omega) (by omega) ml (by omega)) (And.intro v (br_t (nf_t (k := 1) z (by omega)) ⟨rfl, R lr wk⟩))
end
section
section
variable {nd ky wd len jn cp stm fd fc ack N : Nat} {md ch sr hs st : Nat → Nat} {lr : Int32} {L : Nat → cr_E} {pl va rq rs fi sz uc ur uk uv uo aq ar wk : Nat → Int32}
variable {po : Int32 → Prop} {ps : SX → Prop} {pr : Int32 → SX → Prop} {qs : SY → Prop} {qr : Int32 → SY → Prop}
theorem xw_admit_b {v q z : Int32} (h : (v < 0 ∨ nI 4 ≤ v) ∨ q < 1 ∨ z = 0) (hp : po (-1)) : wpX_admit po (cr_xs nd ky wd len jn cp lr md pl ch sr va rq rs fi sz uc ur uk uv uo st aq ar) v q z := by
  unfold wpX_admit
  rcases pk_ix v (n := 4) (by omega) with y | y | ⟨i, hi, e⟩
  · exact xw_isClient_f (Or.inl y) (br_t rfl hp)
  · exact xw_isClient_f (Or.inr y) (br_t rfl hp)
  · subst e
    refine xw_isClient_t hi (br_f (by decide) ?_)
    by_cases w : q < 1
    · exact br_t w hp
    · refine br_f w (br_t ?_ hp)
      rcases h with h | h | h
      · rcases h with h | h
        · exact absurd h (nI_pos (by omega))
        · exact absurd h (nI_ge hi (by omega))
      · exact absurd h w
      · exact h
theorem xw_admit_d {c : Nat} {q : Int32} (hP : (pi_P nd ky wd len jn cp stm fd fc ack N md ch sr hs st L pl)) (hc : c < 4) (hq : ¬ q < 1) (dn : md (ch 0) ≠ 10) (hp : po (-3)) : wpX_admit po (cr_xs nd ky wd len jn cp lr md pl ch sr va rq rs fi sz uc ur uk uv uo st aq ar) (nI c) q 1 := by
  obtain ⟨hC, hK, hH, hL, hT⟩ := hP
  have hl1 : 1 ≤ len := hC.2.2.2.2.2.2.1
  have h06 := kk_lt hK hC (p := 0) (by omega)
  unfold wpX_admit
  exact xw_isClient_t hc (br_f (by decide) (br_f hq (br_f (by decide) (nm_r (e' := nI (ch 0)) rfl (And.intro (vp_in_nI h06 (by decide)) (br_f (nf_f (k := 10) dn (by omega) (kk_mlt hK h06) (by omega)) hp))))))
theorem xw_admit {c : Nat} {q : Int32} (hP : (pi_P nd ky wd len jn cp stm fd fc ack N md ch sr hs st L pl)) (hD : (cr_D L ky jn cp fd fc sr hs st va rq rs fi sz uc ur uk uv uo)) (hc : c < 4) (hq : ¬ q < 1) (up : md (ch 0) = 10)
    (h7 : ¬ cr_Q L (hs (ch 0)) c ≤ q → po (-7))
    (h2 : q = cr_Q L (hs (ch 0)) c → cr_Q L (sr (ch 0)) c = q → po 2)
    (h1 : q = cr_Q L (hs (ch 0)) c → ¬ cr_Q L (sr (ch 0)) c = q → po 1)
    (h6 : cr_Q L (hs (ch 0)) c ≤ q → ¬ q = cr_Q L (hs (ch 0)) c → 200 ≤ hs (ch 0) → po (-6))
    (h5 : cr_Q L (hs (ch 0)) c ≤ q → ¬ q = cr_Q L (hs (ch 0)) c → hs (ch 0) < 200 → wd ≤ hs (ch 0) - sr (ch 0) → po (-5))
    (h5' : cr_Q L (hs (ch 0)) c ≤ q → ¬ q = cr_Q L (hs (ch 0)) c → hs (ch 0) < 200 → hs (ch 0) - sr (ch 0) < wd → len = 1 → jn < 6 → wd ≤ fc → po (-5))
    (h0 : cr_Q L (hs (ch 0)) c ≤ q → ¬ q = cr_Q L (hs (ch 0)) c → hs (ch 0) < 200 → hs (ch 0) - sr (ch 0) < wd → (len = 1 → jn < 6 → fc < wd) → po 0) :
    wpX_admit po (cr_xs nd ky wd len jn cp lr md pl ch sr va rq rs fi sz uc ur uk uv uo st aq ar) (nI c) q 1 := by
  obtain ⟨hC, hK, hH, hL, hT⟩ := hP
  have hl1 : 1 ≤ len := hC.2.2.2.2.2.2.1
  have hl2 : len ≤ nd := hC.2.2.2.2.2.2.2
  have hn6 : nd ≤ 6 := hC.2.1
  have hw8 : wd ≤ 8 := hC.2.2.2.2.2.1
  have h06 := kk_lt hK hC (p := 0) (by omega)
  have hj := gt_j hK h06 (Or.inl up)
  obtain ⟨hle, hS, g1, g2, _⟩ := hD.1 (ch 0) h06 hj
  obtain ⟨f1, f2, _⟩ := hD.2.2
  have hN := (hH.2.1 _ h06).2.1
  have h200 := (hh_200 hH h06).2.1
  have ez : sz (nI (ch 0)).toNatClampNeg = nI (hs (ch 0) - sr (ch 0)) := by rw [nI_clamp (by omega)]; exact g2
  have v7 : vp_in (nI (ch 0)) 7 := vp_in_nI (by omega) (by decide)
  unfold wpX_admit
  refine xw_isClient_t hc (br_f (by decide) (br_f hq (br_f (by decide) (nm_r (e' := nI (ch 0)) rfl (And.intro (vp_in_nI h06 (by decide)) (br_t (nf_t up (by omega)) (And.intro v7 ?_)))))))
  rw [ez]
  refine xw_request hD hL h06 hj hc (Nat.le_refl _) hN ?_
  rw [show sr (ch 0) + (hs (ch 0) - sr (ch 0)) = hs (ch 0) by omega]
  by_cases a : cr_Q L (hs (ch 0)) c ≤ q
  · refine br_t a ?_
    by_cases b : q = cr_Q L (hs (ch 0)) c
    · refine br_t b (And.intro (by rw [n_m4]; exact vp_in_nI (by omega) (by decide)) ?_)
      rw [n_m4, nI_clamp (n := ch 0 * 4 + c) (by omega), (hS.2 c hc).1]
      exact ⟨fun x => h2 b x, fun x => h1 b x⟩
    · refine br_f b ?_
      refine xw_reach hD h06 hj ?_
      refine pk_lt (hs (ch 0)) 200 (fun d => And.intro v7 ?_) (fun d => h6 a b d)
      refine pk_lt (hs (ch 0) - sr (ch 0)) wd (fun e => ?_) (fun e => h5 a b d e)
      refine pk_eq len 1 (fun g => ?_) (fun g => h0 a b d e (fun y => absurd y g))
      exact xw_full hK.1 hw8 f2 f1 (fun x => br_t rfl (h0 a b d e (fun _ y => by omega))) (fun x y => br_f (by decide) (h5' a b d e g x y))
  · exact br_f a (h7 a)
theorem yw_enter_d {c : Nat} {q k1 k4 k5 k6 : Int32} (hP : (pi_P nd ky wd len jn cp stm fd fc ack N md ch sr hs st L pl)) (dn : md (ch 0) ≠ 10) (hp : qr (-3) (cr_ys nd ky wd len ack stm fd lr L md ch hs sr wk)) : wpY_enter qr (cr_ys nd ky wd len ack stm fd lr L md ch hs sr wk) k1 (nI c) q k4 k5 k6 := by
  obtain ⟨hC, hK, hH, hL, hT⟩ := hP
  have hl1 : 1 ≤ len := hC.2.2.2.2.2.2.1
  have h06 := kk_lt hK hC (p := 0) (by omega)
  unfold wpY_enter
  exact nm_r (e' := nI (ch 0)) rfl (And.intro (vp_in_nI h06 (by decide)) (br_f (nf_f (k := 10) dn (by omega) (kk_mlt hK h06) (by omega)) hp))
theorem yw_e87 {c : Nat} {q k1 k4 k5 k6 : Int32} (hP : (pi_P nd ky wd len jn cp stm fd fc ack N md ch sr hs st L pl)) (up : md (ch 0) = 10)
    (h6 : 200 ≤ hs (ch 0) → qr (-6) (cr_ys nd ky wd len ack stm fd lr L md ch hs sr wk))
    (h5 : hs (ch 0) < 200 → wd ≤ hs (ch 0) - sr (ch 0) → qr (-5) (cr_ys nd ky wd len ack stm fd lr L md ch hs sr wk))
    (h5' : hs (ch 0) < 200 → hs (ch 0) - sr (ch 0) < wd → len = 1 → jn < 6 → wd ≤ fc → qr (-5) (cr_ys nd ky wd len ack stm fd lr L md ch hs sr wk))
    (h0 : hs (ch 0) < 200 → hs (ch 0) - sr (ch 0) < wd → (len = 1 → jn < 6 → fc < wd) → wY_enter_150 qr k1 (nI c) q k4 k5 k6 (nI (ch 0)) (nI (hs (ch 0))) (nI nd) (nI ky) (nI wd) (nI len) (nI ack) (nI stm) (nI fd) lr (cr_nF (cr_kd L)) (cr_nF (cr_wh L)) (cr_nu L) (cr_nF (cr_so L)) (cr_nF (cr_ta L)) (cr_am L) (cr_nF md) (cr_nF ch) (cr_nF hs) (cr_nF sr) wk) :
    wY_enter_87 qr k1 (nI c) q k4 k5 k6 (nI (ch 0)) (nI (hs (ch 0))) (nI nd) (nI ky) (nI wd) (nI len) (nI ack) (nI stm) (nI fd) lr (cr_nF (cr_kd L)) (cr_nF (cr_wh L)) (cr_nu L) (cr_nF (cr_so L)) (cr_nF (cr_ta L)) (cr_am L) (cr_nF md) (cr_nF ch) (cr_nF hs) (cr_nF sr) wk := by
  obtain ⟨hC, hK, hH, hL, hT⟩ := hP
  have hl1 : 1 ≤ len := hC.2.2.2.2.2.2.1
  have hl2 : len ≤ nd := hC.2.2.2.2.2.2.2
  have hn6 : nd ≤ 6 := hC.2.1
  have hw8 : wd ≤ 8 := hC.2.2.2.2.2.1
  have h06 := kk_lt hK hC (p := 0) (by omega)
  have h200 := hh_200 hH h06
  have es : nI (hs (ch 0)) - cr_nF sr (nI (ch 0)).toNatClampNeg = nI (hs (ch 0) - sr (ch 0)) := by rw [nf_at (by omega), pk_sub h200.1]
  unfold wY_enter_87
  refine pk_lt (hs (ch 0)) 200 (fun d => And.intro (vp_in_nI h06 (by decide)) ?_) (fun d => h6 d)
  rw [es]
  refine pk_lt (hs (ch 0) - sr (ch 0)) wd (fun e => ?_) (fun e => h5 d e)
  refine pk_eq len 1 (fun g => ?_) (fun g => h0 d e (fun y => absurd y g))
  refine yw_hj hC hK (fun x => br_f (by decide) ?_) (fun x => br_t rfl (h0 d e (fun _ y => by omega)))
  have t := hT.2.2.2.2.1 x (by rw [g]; exact up)
  have tf : fd + fc = hs (ch 0) := by have := t.1; rw [g] at this; exact this
  have ef : nI (hs (ch 0)) - nI fd = nI fc := by rw [← tf, pk_sub (by omega), show fd + fc - fd = fc by omega]
  have t2 := t.2.1
  rw [ef]
  exact pk_lt fc wd (fun y => h0 d e (fun _ _ => y)) (fun y => h5' d e g x y)
theorem qq_done {c j : Nat} (hP : (pi_P nd ky wd len jn cp stm fd fc ack N md ch sr hs st L pl)) (up : md (ch 0) = 10) (hj : j < hs (ch 0)) (hw : cr_wh L j = c) (hlast : ∀ i, j < i → i < hs (ch 0) → cr_wh L i ≠ c) : cr_Q L (sr (ch 0)) c = cr_nu L j ↔ j < sr (ch 0) := by
  obtain ⟨hC, hK, hH, hL, hT⟩ := hP
  have hl1 : 1 ≤ len := hC.2.2.2.2.2.2.1
  have h06 := kk_lt hK hC (p := 0) (by omega)
  obtain ⟨a1, a2, a3, a4⟩ := hH.2.1 _ h06
  rcases cr_lo_c L c (sr (ch 0)) with ⟨b1, b2, b3, b4⟩ | ⟨i, b1, b2, b3, b4, b5, b6⟩
  · constructor
    · intro x
      rw [b2] at x
      have w3 := (hL j (by omega)).1.2.2.1
      rw [← x] at w3
      exact absurd w3 (by decide)
    · intro x
      exact absurd hw (b4 j x)
  · constructor
    · intro x
      rw [b4] at x
      by_cases y : j < sr (ch 0)
      · exact y
      · have := (hL j (by omega)).2 i (by omega) (by rw [b3, hw])
        rw [x] at this
        exact (Int32.lt_irrefl this).elim
    · intro x
      have : i = j := by
        rcases Nat.lt_trichotomy i j with y | y | y
        · exact absurd hw (b6 j y x)
        · exact y
        · exact absurd b3 (hlast i y (by omega))
      rw [b4, this]
theorem yw_enter {c : Nat} {q k1 k4 k5 k6 : Int32} (hP : (pi_P nd ky wd len jn cp stm fd fc ack N md ch sr hs st L pl)) (hc : c < 4) (hq : ¬ q < 1) (up : md (ch 0) = 10)
    (h7 : ¬ cr_Q L (hs (ch 0)) c ≤ q → qr (-7) (cr_ys nd ky wd len ack stm fd lr L md ch hs sr wk))
    (h2 : q = cr_Q L (hs (ch 0)) c → cr_Q L (sr (ch 0)) c = q → qr 2 (cr_ys nd ky wd len ack stm fd lr L md ch hs sr wk))
    (h1 : q = cr_Q L (hs (ch 0)) c → ¬ cr_Q L (sr (ch 0)) c = q → qr 1 (cr_ys nd ky wd len ack stm fd lr L md ch hs sr wk))
    (h6 : cr_Q L (hs (ch 0)) c ≤ q → ¬ q = cr_Q L (hs (ch 0)) c → 200 ≤ hs (ch 0) → qr (-6) (cr_ys nd ky wd len ack stm fd lr L md ch hs sr wk))
    (h5 : cr_Q L (hs (ch 0)) c ≤ q → ¬ q = cr_Q L (hs (ch 0)) c → hs (ch 0) < 200 → wd ≤ hs (ch 0) - sr (ch 0) → qr (-5) (cr_ys nd ky wd len ack stm fd lr L md ch hs sr wk))
    (h5' : cr_Q L (hs (ch 0)) c ≤ q → ¬ q = cr_Q L (hs (ch 0)) c → hs (ch 0) < 200 → hs (ch 0) - sr (ch 0) < wd → len = 1 → jn < 6 → wd ≤ fc → qr (-5) (cr_ys nd ky wd len ack stm fd lr L md ch hs sr wk))
    (h0 : cr_Q L (hs (ch 0)) c ≤ q → ¬ q = cr_Q L (hs (ch 0)) c → hs (ch 0) < 200 → hs (ch 0) - sr (ch 0) < wd → (len = 1 → jn < 6 → fc < wd) → wY_enter_150 qr k1 (nI c) q k4 k5 k6 (nI (ch 0)) (nI (hs (ch 0))) (nI nd) (nI ky) (nI wd) (nI len) (nI ack) (nI stm) (nI fd) lr (cr_nF (cr_kd L)) (cr_nF (cr_wh L)) (cr_nu L) (cr_nF (cr_so L)) (cr_nF (cr_ta L)) (cr_am L) (cr_nF md) (cr_nF ch) (cr_nF hs) (cr_nF sr) wk) :
    wpY_enter qr (cr_ys nd ky wd len ack stm fd lr L md ch hs sr wk) k1 (nI c) q k4 k5 k6 := by
  have hP' := hP
  obtain ⟨hC, hK, hH, hL, hT⟩ := hP'
  have hl1 : 1 ≤ len := hC.2.2.2.2.2.2.1
  have h06 := kk_lt hK hC (p := 0) (by omega)
  have hN := (hH.2.1 _ h06).2.1
  have h200 := hh_200 hH h06
  have v6 : vp_in (nI (ch 0)) 6 := vp_in_nI h06 (by decide)
  unfold wpY_enter
  refine nm_r (e' := nI (ch 0)) rfl (And.intro v6 (br_t (nf_t up (by omega)) (And.intro v6 (nm_r (e' := nI (hs (ch 0))) (nf_at (by omega)) ?_))))
  refine yw_last hL hN hH.1 hc ?_
  rcases cr_lo_c L c (hs (ch 0)) with ⟨b1, b2, b3, b4⟩ | ⟨j, b1, b2, b3, b4, b5, b6⟩
  · have e1 : cr_Q L (hs (ch 0)) c ≤ q := by
      rw [b2]
      exact Int32.le_trans (by decide) (Int32.not_lt.mp hq)
    have e2 : ¬ q = cr_Q L (hs (ch 0)) c := fun x => by
      rw [b2] at x
      rw [x] at hq
      exact hq (by decide)
    rw [b1]
    exact br_t (by decide) (yw_e87 hP up (h6 e1 e2) (h5 e1 e2) (h5' e1 e2) (h0 e1 e2))
  · have D := qq_done hP up b1 b3 b6
    have cl : (nI j).toNatClampNeg = j := nI_clamp (by omega)
    have vj : vp_in (nI j) 200 := vp_in_nI (by omega) (by decide)
    rw [b2]
    refine br_f (nI_pos (by omega)) (And.intro vj ?_)
    rw [cl, ← b4]
    by_cases a : cr_Q L (hs (ch 0)) c ≤ q
    · refine br_t a (And.intro vj ?_)
      by_cases b : q = cr_Q L (hs (ch 0)) c
      · refine br_t b (And.intro v6 ?_)
        have D' : cr_Q L (sr (ch 0)) c = q ↔ j < sr (ch 0) := by rw [b, b4]; exact D
        rw [nf_at (by omega)]
        exact pk_le (sr (ch 0)) j (fun x => h1 b (fun y => by have := D'.mp y; omega)) (fun x => h2 b (D'.mpr x))
      · exact br_f b (yw_e87 hP up (h6 a b) (h5 a b) (h5' a b) (h0 a b))
    · exact br_f a (h7 a)
/-- one verdict for both -/
theorem ad_both {c : Nat} {q : Int32} (hP : (pi_P nd ky wd len jn cp stm fd fc ack N md ch sr hs st L pl)) (hD : (cr_D L ky jn cp fd fc sr hs st va rq rs fi sz uc ur uk uv uo)) (hc : c < 4) (hq : ¬ q < 1) :
    (∃ r : Int32, ¬ r = 0 ∧ (∀ po : Int32 → Prop, po r → wpX_admit po (cr_xs nd ky wd len jn cp lr md pl ch sr va rq rs fi sz uc ur uk uv uo st aq ar) (nI c) q 1) ∧ (∀ (qr : Int32 → SY → Prop) (k1 k4 k5 k6 : Int32), qr r (cr_ys nd ky wd len ack stm fd lr L md ch hs sr wk) → wpY_enter qr (cr_ys nd ky wd len ack stm fd lr L md ch hs sr wk) k1 (nI c) q k4 k5 k6)) ∨
    ((∀ po : Int32 → Prop, po 0 → wpX_admit po (cr_xs nd ky wd len jn cp lr md pl ch sr va rq rs fi sz uc ur uk uv uo st aq ar) (nI c) q 1) ∧ (∀ (qr : Int32 → SY → Prop) (k1 k4 k5 k6 : Int32), wY_enter_150 qr k1 (nI c) q k4 k5 k6 (nI (ch 0)) (nI (hs (ch 0))) (nI nd) (nI ky) (nI wd) (nI len) (nI ack) (nI stm) (nI fd) lr (cr_nF (cr_kd L)) (cr_nF (cr_wh L)) (cr_nu L) (cr_nF (cr_so L)) (cr_nF (cr_ta L)) (cr_am L) (cr_nF md) (cr_nF ch) (cr_nF hs) (cr_nF sr) wk → wpY_enter qr (cr_ys nd ky wd len ack stm fd lr L md ch hs sr wk) k1 (nI c) q k4 k5 k6) ∧
      md (ch 0) = 10 ∧ hs (ch 0) < 200 ∧ hs (ch 0) - sr (ch 0) < wd ∧ (len = 1 → jn < 6 → fc < wd) ∧ cr_Q L (hs (ch 0)) c < q) := by
  by_cases up : md (ch 0) = 10
  · by_cases a : cr_Q L (hs (ch 0)) c ≤ q
    · by_cases b : q = cr_Q L (hs (ch 0)) c
      · by_cases d : cr_Q L (sr (ch 0)) c = q
        · exact Or.inl ⟨2, by decide, fun po hp => xw_admit hP hD hc hq up (fun x => absurd a x) (fun _ _ => hp) (fun _ x => absurd d x) (fun _ x => absurd b x) (fun _ x => absurd b x) (fun _ x => absurd b x) (fun _ x => absurd b x),
            fun qr k1 k4 k5 k6 hp => yw_enter hP hc hq up (fun x => absurd a x) (fun _ _ => hp) (fun _ x => absurd d x) (fun _ x => absurd b x) (fun _ x => absurd b x) (fun _ x => absurd b x) (fun _ x => absurd b x)⟩
        · exact Or.inl ⟨1, by decide, fun po hp => xw_admit hP hD hc hq up (fun x => absurd a x) (fun _ x => absurd x d) (fun _ _ => hp) (fun _ x => absurd b x) (fun _ x => absurd b x) (fun _ x => absurd b x) (fun _ x => absurd b x),
            fun qr k1 k4 k5 k6 hp => yw_enter hP hc hq up (fun x => absurd a x) (fun _ x => absurd x d) (fun _ _ => hp) (fun _ x => absurd b x) (fun _ x => absurd b x) (fun _ x => absurd b x) (fun _ x => absurd b x)⟩
      · by_cases n2 : hs (ch 0) < 200
        · by_cases w : hs (ch 0) - sr (ch 0) < wd
          · by_cases f : len = 1 → jn < 6 → fc < wd
            · refine Or.inr ⟨fun po hp => xw_admit hP hD hc hq up (fun x => absurd a x) (fun x => absurd x b) (fun x => absurd x b) (fun _ _ x => by omega) (fun _ _ _ x => by omega) (fun _ _ _ _ x y z => by have := f x y; omega) (fun _ _ _ _ _ => hp),
                fun qr k1 k4 k5 k6 hp => yw_enter hP hc hq up (fun x => absurd a x) (fun x => absurd x b) (fun x => absurd x b) (fun _ _ x => by omega) (fun _ _ _ x => by omega) (fun _ _ _ _ x y z => by have := f x y; omega) (fun _ _ _ _ _ => hp), up, n2, w, f, ?_⟩
              rcases Int32.lt_or_eq_of_le a with x | x
              · exact x
              · exact absurd x.symm b
            · exact Or.inl ⟨-5, by decide, fun po hp => xw_admit hP hD hc hq up (fun x => absurd a x) (fun x => absurd x b) (fun x => absurd x b) (fun _ _ x => by omega) (fun _ _ _ x => by omega) (fun _ _ _ _ _ _ _ => hp) (fun _ _ _ _ x => absurd x f),
                fun qr k1 k4 k5 k6 hp => yw_enter hP hc hq up (fun x => absurd a x) (fun x => absurd x b) (fun x => absurd x b) (fun _ _ x => by omega) (fun _ _ _ x => by omega) (fun _ _ _ _ _ _ _ => hp) (fun _ _ _ _ x => absurd x f)⟩
          · exact Or.inl ⟨-5, by decide, fun po hp => xw_admit hP hD hc hq up (fun x => absurd a x) (fun x => absurd x b) (fun x => absurd x b) (fun _ _ x => by omega) (fun _ _ _ _ => hp) (fun _ _ _ x => absurd x w) (fun _ _ _ x => absurd x w),
              fun qr k1 k4 k5 k6 hp => yw_enter hP hc hq up (fun x => absurd a x) (fun x => absurd x b) (fun x => absurd x b) (fun _ _ x => by omega) (fun _ _ _ _ => hp) (fun _ _ _ x => absurd x w) (fun _ _ _ x => absurd x w)⟩
        · exact Or.inl ⟨-6, by decide, fun po hp => xw_admit hP hD hc hq up (fun x => absurd a x) (fun x => absurd x b) (fun x => absurd x b) (fun _ _ _ => hp) (fun _ _ x => absurd x n2) (fun _ _ x => absurd x n2) (fun _ _ x => absurd x n2),
            fun qr k1 k4 k5 k6 hp => yw_enter hP hc hq up (fun x => absurd a x) (fun x => absurd x b) (fun x => absurd x b) (fun _ _ _ => hp) (fun _ _ x => absurd x n2) (fun _ _ x => absurd x n2) (fun _ _ x => absurd x n2)⟩
    · refine Or.inl ⟨-7, by decide, fun po hp => xw_admit hP hD hc hq up (fun _ => hp) (fun x => ?_) (fun x => ?_) (fun x => absurd x a) (fun x => absurd x a) (fun x => absurd x a) (fun x => absurd x a),
        fun qr k1 k4 k5 k6 hp => yw_enter hP hc hq up (fun _ => hp) (fun x => ?_) (fun x => ?_) (fun x => absurd x a) (fun x => absurd x a) (fun x => absurd x a) (fun x => absurd x a)⟩ <;> exact absurd (x ▸ Int32.le_refl _) a
  · exact Or.inl ⟨-3, by decide, fun po hp => xw_admit_d hP hc hq up hp, fun qr k1 k4 k5 k6 hp => yw_enter_d hP up hp⟩
end
end
section
section
variable {nd ky wd len jn cp stm fd fc ack N : Nat} {md ch sr hs st : Nat → Nat} {lr : Int32} {L : Nat → cr_E} {pl va rq rs fi sz uc ur uk uv uo aq ar wk : Nat → Int32}
variable {po : Int32 → Prop} {ps : SX → Prop} {pr : Int32 → SX → Prop} {qs : SY → Prop} {qr : Int32 → SY → Prop}
/-- what becomes of the stable lengths when an update enters at the head -/
def pi_es (len : Nat) (sr hs ch : Nat → Nat) : Nat → Nat := if len = 1 then cr_uN sr (ch 0) (hs (ch 0) + 1) else sr
theorem en_ag (e : cr_E) (n : Nat) : ∀ i, i < n → L i = cr_uE L n e i := fun i hi => (cr_uEn (by omega)).symm
/-- an admitted update at the component -/
theorem xw_enter {c t : Nat} {q val oth : Int32} {e : cr_E} (hP : (pi_P nd ky wd len jn cp stm fd fc ack N md ch sr hs st L pl)) (hD : (cr_D L ky jn cp fd fc sr hs st va rq rs fi sz uc ur uk uv uo)) (hA : (cr_AK L ack aq ar)) (up : md (ch 0) = 10) (hn : hs (ch 0) < 200) (hw : hs (ch 0) - sr (ch 0) < wd) (hf : len = 1 → jn < 6 → fc < wd)
    (we : cr_wf (cr_uE L (hs (ch 0)) e) ky (hs (ch 0))) (hq : cr_Q L (hs (ch 0)) e.2.1 < e.2.2.1)
    (e1 : c = e.2.1) (e2 : q = e.2.2.1) (e3 : t = e.2.2.2.2.1) (e4 : val = cr_vl (cr_uE L (hs (ch 0)) e) (hs (ch 0))) (e5 : oth = cr_ot (cr_uE L (hs (ch 0)) e) (hs (ch 0)))
    (hp : ∀ fc' va' rq' rs' fi' sz' uc' ur' uk' uv' uo' aq' ar', (pi_P nd ky wd len jn cp stm fd fc' (pi_sa ack md ch (pi_es len sr hs ch)) (hs (ch 0) + 1) md ch (pi_es len sr hs ch) (cr_uN hs (ch 0) (hs (ch 0) + 1)) st (cr_uE L (hs (ch 0)) e) pl) →
      (cr_D (cr_uE L (hs (ch 0)) e) ky jn cp fd fc' (pi_es len sr hs ch) (cr_uN hs (ch 0) (hs (ch 0) + 1)) st va' rq' rs' fi' sz' uc' ur' uk' uv' uo') →
      (cr_AK (cr_uE L (hs (ch 0)) e) (pi_sa ack md ch (pi_es len sr hs ch)) aq' ar') →
      ps (cr_xs nd ky wd len jn cp lr md pl ch (pi_es len sr hs ch) va' rq' rs' fi' sz' uc' ur' uk' uv' uo' st aq' ar')) :
    wpX_enter ps (cr_xs nd ky wd len jn cp lr md pl ch sr va rq rs fi sz uc ur uk uv uo st aq ar) (nI c) q (nI t) val oth := by
  have hP' := hP
  obtain ⟨hC, hK, hH, hL, hT⟩ := hP'
  have hl1 : 1 ≤ len := hC.2.2.2.2.2.2.1
  have hw8 : wd ≤ 8 := hC.2.2.2.2.2.1
  have hjn := hK.1
  have h06 := kk_lt hK hC (p := 0) (by omega)
  have hj := gt_j hK h06 (Or.inl up)
  have hN := (hH.2.1 _ h06).2.1
  have hle := (hH.2.1 _ h06).1
  have hm := fun i hi => hh_max hC hK hH up (i := i) hi
  have ag := en_ag (L := L) e (hs (ch 0))
  have t6 := kk_lt hK hC (p := len - 1) (by omega)
  have hLe : (pi_L ky (hs (ch 0) + 1) (cr_uE L (hs (ch 0)) e)) := ll_app hL hN e we hq
  have tl : jn < 6 → md (ch (len - 1)) = 10 → fd + fc = hs (ch (len - 1)) ∧ fc ≤ wd ∧ ∀ i, i < cp → st i ≤ hs (ch (len - 1)) := hT.2.2.2.2.1
  have D1 : (cr_D (cr_uE L (hs (ch 0)) e) ky jn cp fd fc sr hs st va rq rs fi sz uc ur uk uv uo) := by
    refine cd_agree ag hD hm ?_ ?_
    · by_cases x : jn < 6 ∧ md (ch (len - 1)) = 10
      · have := (tl x.1 x.2).1
        have := hm _ t6
        right; omega
      · left
        exact (hT.2.2.2.2.2 (by omega)).2
    · intro i hi
      by_cases x : jn < 6 ∧ md (ch (len - 1)) = 10
      · obtain ⟨a, b, d⟩ := tl x.1 x.2
        have := hm _ t6
        have := d i hi
        unfold cr_mx
        split <;> omega
      · have := (hT.2.2.2.2.2 (by omega)).1
        omega
  have A1 : (cr_AK (cr_uE L (hs (ch 0)) e) ack aq ar) := by
    intro k hk
    have hak : ack ≤ hs (ch 0) := by
      have := hH.2.2.2.2.2.1 up
      omega
    rw [← (cr_agree ag ack hak).2.1, ← (cr_agree ag ack hak).2.2]
    exact hA k hk
  have q1 : c = cr_wh (cr_uE L (hs (ch 0)) e) (hs (ch 0)) := by unfold cr_wh; rw [cr_uEs]; exact e1
  have q2 : q = cr_nu (cr_uE L (hs (ch 0)) e) (hs (ch 0)) := by unfold cr_nu; rw [cr_uEs]; exact e2
  have q3 : t = cr_ta (cr_uE L (hs (ch 0)) e) (hs (ch 0)) := by unfold cr_ta; rw [cr_uEs]; exact e3
  rw [q1, q2, q3, e4, e5]
  unfold wpX_enter
  refine nm_r (e' := nI (ch 0)) rfl ?_
  refine xw_appN D1 h06 hj (by omega) (fun sz' uc' ur' uk' uv' uo' D2 => ?_)
  have eh : cr_uN hs (ch 0) (hs (ch 0) + 1) (ch 0) = hs (ch 0) + 1 := cr_uNs
  show wpX_afterAppend _ (cr_xs nd ky wd len jn cp lr md pl ch sr va rq rs fi sz' uc' ur' uk' uv' uo' st aq ar) _
  refine xw_after (p := 0) hC hK hLe D2 (by omega) rfl (by rw [eh]; exact Nat.le_refl _) (by rw [eh]; omega) (fun z => ?_) (fun z hj6 => ?_) (fun z fc' va' rq' rs' fi' sz'' uc'' ur'' uk'' uv'' uo'' f1 f2 D3 => ?_)
  · have es : pi_es len sr hs ch = sr := if_neg (by omega)
    rw [es] at hp
    show wpX_publish _ (cr_xs nd ky wd len jn cp lr md pl ch sr va rq rs fi sz' uc' ur' uk' uv' uo' st aq ar)
    refine xw_publish hC hK D2 A1 (fun aq' ar' A2 => ?_)
    have P2 := pq_enter2 hP up hn hw (by omega) e we hq
    rw [sa_id hH] at hp A2
    exact hp fc _ _ _ _ _ _ _ _ _ _ aq' ar' P2 D2 A2
  · have l1 : len = 1 := by omega
    have t := tl hj6 (by rw [l1]; exact up)
    have t1 : fd + fc = hs (ch 0) := by have := t.1; rw [l1] at this; exact this
    have := hf l1 hj6
    rw [eh]
    omega
  · have l1 : len = 1 := by omega
    have es : pi_es len sr hs ch = cr_uN sr (ch 0) (hs (ch 0) + 1) := if_pos l1
    rw [es] at hp
    rw [eh] at D3 ⊢
    show wpX_publish _ (cr_xs nd ky wd len jn cp lr md pl ch (cr_uN sr (ch 0) (hs (ch 0) + 1)) va' rq' rs' fi' sz'' uc'' ur'' uk'' uv'' uo'' st aq ar)
    refine xw_publish hC hK D3 A1 (fun aq' ar' A2 => ?_)
    have P2 := pq_enter1 hP up hn hw l1 (fc' := fc') (fun x => ⟨hf l1 x, f2 x⟩) f1 e we hq
    have esa : pi_sa ack md ch (cr_uN sr (ch 0) (hs (ch 0) + 1)) = hs (ch 0) + 1 := by
      unfold pi_sa
      rw [if_pos up, cr_uNs]
    rw [esa] at hp A2
    exact hp fc' va' rq' rs' fi' sz'' uc'' ur'' uk'' uv'' uo'' aq' ar' P2 D3 A2
/-- an admitted update at the reference -/
theorem yw_e150 {a b d e : Nat} {c g : Int32} (hC : (pi_C nd ky wd len)) (hK : (pi_K nd len jn md ch pl)) (hn : hs (ch 0) < 200)
    (hp : qr 0 (cr_ys nd ky wd len (pi_sa ack md ch (pi_es len sr hs ch)) stm fd lr (cr_uE L (hs (ch 0)) (a, b, c, d, e, g)) md ch (cr_uN hs (ch 0) (hs (ch 0) + 1)) (pi_es len sr hs ch) wk)) :
    wY_enter_150 qr (nI a) (nI b) c (nI d) (nI e) g (nI (ch 0)) (nI (hs (ch 0))) (nI nd) (nI ky) (nI wd) (nI len) (nI ack) (nI stm) (nI fd) lr (cr_nF (cr_kd L)) (cr_nF (cr_wh L)) (cr_nu L) (cr_nF (cr_so L)) (cr_nF (cr_ta L)) (cr_am L) (cr_nF md) (cr_nF ch) (cr_nF hs) (cr_nF sr) wk := by
  have hl1 : 1 ≤ len := hC.2.2.2.2.2.2.1
  have hl2 : len ≤ nd := hC.2.2.2.2.2.2.2
  have hn6 : nd ≤ 6 := hC.2.1
  have h06 := kk_lt hK hC (p := 0) (by omega)
  have v : vp_in (nI (hs (ch 0))) 200 := vp_in_nI hn (by decide)
  have v6 : vp_in (nI (ch 0)) 6 := vp_in_nI h06 (by decide)
  have cl : (nI (hs (ch 0))).toNatClampNeg = hs (ch 0) := nI_clamp (by omega)
  have c0 : (nI (ch 0)).toNatClampNeg = ch 0 := nI_clamp (by omega)
  have u1 : upd (cr_nF (cr_kd L)) (nI (hs (ch 0))).toNatClampNeg (nI a) = cr_nF (cr_kd (cr_uE L (hs (ch 0)) (a, b, c, d, e, g))) := by rw [cl]; exact cr_up1 L _ a b c d e g
  have u2 : upd (cr_nF (cr_wh L)) (nI (hs (ch 0))).toNatClampNeg (nI b) = cr_nF (cr_wh (cr_uE L (hs (ch 0)) (a, b, c, d, e, g))) := by rw [cl]; exact cr_up2 L _ a b c d e g
  have u3 : upd (cr_nu L) (nI (hs (ch 0))).toNatClampNeg c = cr_nu (cr_uE L (hs (ch 0)) (a, b, c, d, e, g)) := by rw [cl]; exact cr_up3 L _ a b c d e g
  have u4 : upd (cr_nF (cr_so L)) (nI (hs (ch 0))).toNatClampNeg (nI d) = cr_nF (cr_so (cr_uE L (hs (ch 0)) (a, b, c, d, e, g))) := by rw [cl]; exact cr_up4 L _ a b c d e g
  have u5 : upd (cr_nF (cr_ta L)) (nI (hs (ch 0))).toNatClampNeg (nI e) = cr_nF (cr_ta (cr_uE L (hs (ch 0)) (a, b, c, d, e, g))) := by rw [cl]; exact cr_up5 L _ a b c d e g
  have u6 : upd (cr_am L) (nI (hs (ch 0))).toNatClampNeg g = cr_am (cr_uE L (hs (ch 0)) (a, b, c, d, e, g)) := by rw [cl]; exact cr_up6 L _ a b c d e g
  have u7 : upd (cr_nF hs) (nI (ch 0)).toNatClampNeg (nI (hs (ch 0)) + 1) = cr_nF (cr_uN hs (ch 0) (hs (ch 0) + 1)) := by rw [c0, nI_1, cr_upd]
  unfold wY_enter_150
  refine And.intro v (nm_r u1 (And.intro v (nm_r u2 (And.intro v (nm_r u3 (And.intro v (nm_r u4 (And.intro v (nm_r u5 (And.intro v (nm_r u6 (And.intro v6 (nm_r u7 ?_)))))))))))))
  by_cases z : len = 1
  · have es : pi_es len sr hs ch = cr_uN sr (ch 0) (hs (ch 0) + 1) := if_pos z
    rw [es] at hp
    have u8 : upd (cr_nF sr) (nI (ch 0)).toNatClampNeg (cr_nF (cr_uN hs (ch 0) (hs (ch 0) + 1)) (nI (ch 0)).toNatClampNeg) = cr_nF (cr_uN sr (ch 0) (hs (ch 0) + 1)) := by
      rw [nf_at (by omega), cr_uNs, c0, cr_upd]
    refine br_t (by rw [z]; rfl) (And.intro v6 (And.intro v6 (nm_r u8 ?_)))
    unfold wY_enter_234
    exact yw_settle hC hK hp
  · have es : pi_es len sr hs ch = sr := if_neg z
    rw [es] at hp
    refine br_f (by show ¬ nI len = nI 1; rw [nI_eq (by omega) (by omega)]; exact z) ?_
    unfold wY_enter_234
    exact yw_settle hC hK hp
/-! the value and the other key of the three kinds -/
theorem vl_put {n c : Nat} {q g : Int32} {k : Nat} : cr_vl (cr_uE L n (1, c, q, k, k, g)) n = g ∧ cr_ot (cr_uE L n (1, c, q, k, k, g)) n = -1 := by
  have e : cr_uE L n (1, c, q, k, k, g) n = (1, c, q, k, k, g) := cr_uEs
  unfold cr_vl
  show cr_step _ n _ _ = _ ∧ _
  unfold cr_step cr_ot cr_kd cr_ta cr_am
  rw [e]
  exact ⟨pk_us, rfl⟩
theorem vl_add {n c : Nat} {q g : Int32} {k : Nat} : cr_vl (cr_uE L n (2, c, q, k, k, g)) n = cr_W L n k + g ∧ cr_ot (cr_uE L n (2, c, q, k, k, g)) n = -1 := by
  have e : cr_uE L n (2, c, q, k, k, g) n = (2, c, q, k, k, g) := cr_uEs
  have w := (cr_agree (en_ag (L := L) (2, c, q, k, k, g) n) n (Nat.le_refl n)).1
  unfold cr_vl
  show cr_step _ n (cr_W _ n) _ = _ ∧ _
  rw [← w]
  unfold cr_step cr_ot cr_kd cr_ta cr_am
  rw [e]
  exact ⟨pk_us, rfl⟩
theorem vl_mov {n c : Nat} {q g : Int32} {f t : Nat} (h : t ≠ f) : cr_vl (cr_uE L n (3, c, q, f, t, g)) n = cr_W L n t + cr_W L n f ∧ cr_ot (cr_uE L n (3, c, q, f, t, g)) n = nI f := by
  have e : cr_uE L n (3, c, q, f, t, g) n = (3, c, q, f, t, g) := cr_uEs
  have w := (cr_agree (en_ag (L := L) (3, c, q, f, t, g) n) n (Nat.le_refl n)).1
  unfold cr_vl
  show cr_step _ n (cr_W _ n) _ = _ ∧ _
  rw [← w]
  unfold cr_step cr_ot cr_kd cr_ta cr_am cr_so
  rw [e]
  exact ⟨(pk_un h).trans pk_us, rfl⟩
theorem wf_new {n a c d t : Nat} {q g : Int32} (ha : a = 1 ∨ a = 2 ∨ a = 3) (hc : c < 4) (hq : ¬ q < 1) (ht : t < ky) (hd : d < ky) (h3 : a = 3 → d ≠ t) (hn : a ≠ 3 → d = t) : cr_wf (cr_uE L n (a, c, q, d, t, g)) ky n := by
  have e : cr_uE L n (a, c, q, d, t, g) n = (a, c, q, d, t, g) := cr_uEs
  unfold cr_wf cr_kd cr_wh cr_nu cr_ta cr_so
  rw [e]
  exact ⟨ha, hc, Int32.not_lt.mp hq, ht, hd, h3, hn⟩
end
end
section
section
variable {nd ky wd len jn cp stm fd fc ack N : Nat} {md ch sr hs st : Nat → Nat} {lr : Int32} {L : Nat → cr_E} {pl va rq rs fi sz uc ur uk uv uo aq ar wk : Nat → Int32}
variable {qr : Int32 → SY → Prop}
theorem yw_put_b {v1 v2 v3 v4 : Int32} (hky : ky ≤ 8) (h : (v1 < 0 ∨ nI 4 ≤ v1) ∨ v2 < 1 ∨ (v3 < 0 ∨ nI ky ≤ v3)) (hp : qr (-1) (cr_ys nd ky wd len ack stm fd lr L md ch hs sr wk)) : wpY_put qr (cr_ys nd ky wd len ack stm fd lr L md ch hs sr wk) v1 v2 v3 v4 := by
  unfold wpY_put
  rcases pk_ix v1 (n := 4) (by omega) with y | y | ⟨i, hi, e⟩
  · exact yw_noClient_t (Or.inl y) (br_f (by decide) hp)
  · exact yw_noClient_t (Or.inr y) (br_f (by decide) hp)
  · subst e
    refine yw_noClient_f hi (br_t rfl ?_)
    by_cases w : v2 < 1
    · exact br_t w hp
    · refine br_f w ?_
      rcases h with h | h | h
      · rcases h with h | h
        · exact absurd h (nI_pos (by omega))
        · exact absurd h (nI_ge hi (by omega))
      · exact absurd h w
      · exact yw_noKey_t h (br_f (by decide) hp)
theorem yw_add_b {v1 v2 v3 v4 : Int32} (hky : ky ≤ 8) (h : (v1 < 0 ∨ nI 4 ≤ v1) ∨ v2 < 1 ∨ (v3 < 0 ∨ nI ky ≤ v3)) (hp : qr (-1) (cr_ys nd ky wd len ack stm fd lr L md ch hs sr wk)) : wpY_add qr (cr_ys nd ky wd len ack stm fd lr L md ch hs sr wk) v1 v2 v3 v4 := by
  unfold wpY_add
  rcases pk_ix v1 (n := 4) (by omega) with y | y | ⟨i, hi, e⟩
  · exact yw_noClient_t (Or.inl y) (br_f (by decide) hp)
  · exact yw_noClient_t (Or.inr y) (br_f (by decide) hp)
  · subst e
    refine yw_noClient_f hi (br_t rfl ?_)
    by_cases w : v2 < 1
    · exact br_t w hp
    · refine br_f w ?_
      rcases h with h | h | h
      · rcases h with h | h
        · exact absurd h (nI_pos (by omega))
        · exact absurd h (nI_ge hi (by omega))
      · exact absurd h w
      · exact yw_noKey_t h (br_f (by decide) hp)
theorem yw_mov_b {v1 v2 v3 v4 : Int32} (hky : ky ≤ 8) (h : (v1 < 0 ∨ nI 4 ≤ v1) ∨ v2 < 1 ∨ (v3 < 0 ∨ nI ky ≤ v3) ∨ (v4 < 0 ∨ nI ky ≤ v4) ∨ v3 = v4) (hp : qr (-1) (cr_ys nd ky wd len ack stm fd lr L md ch hs sr wk)) : wpY_move qr (cr_ys nd ky wd len ack stm fd lr L md ch hs sr wk) v1 v2 v3 v4 := by
  unfold wpY_move
  rcases pk_ix v1 (n := 4) (by omega) with y | y | ⟨i, hi, e⟩
  · exact yw_noClient_t (Or.inl y) (br_f (by decide) hp)
  · exact yw_noClient_t (Or.inr y) (br_f (by decide) hp)
  · subst e
    refine yw_noClient_f hi (br_t rfl ?_)
    by_cases w : v2 < 1
    · exact br_t w hp
    · refine br_f w ?_
      rcases pk_ix v3 (n := ky) (by omega) with y | y | ⟨f, hf, e⟩
      · exact yw_noKey_t (Or.inl y) (br_f (by decide) hp)
      · exact yw_noKey_t (Or.inr y) (br_f (by decide) hp)
      · subst e
        refine yw_noKey_f hf hky (br_t rfl ?_)
        rcases pk_ix v4 (n := ky) (by omega) with y | y | ⟨t, ht, e⟩
        · exact yw_noKey_t (Or.inl y) (br_f (by decide) hp)
        · exact yw_noKey_t (Or.inr y) (br_f (by decide) hp)
        · subst e
          refine yw_noKey_f ht hky (br_t rfl (br_t ?_ hp))
          rcases h with h | h | h | h | h
          · rcases h with h | h
            · exact absurd h (nI_pos (by omega))
            · exact absurd h (nI_ge hi (by omega))
          · exact absurd h w
          · rcases h with h | h
            · exact absurd h (nI_pos (by omega))
            · exact absurd h (nI_ge hf (by omega))
          · rcases h with h | h
            · exact absurd h (nI_pos (by omega))
            · exact absurd h (nI_ge ht (by omega))
          · exact h
end
theorem i_vc_put {k : Nat} {u : SX} {v : SY} (I : i_Rel k u v) (hk : k + 5 ≤ 2564) (v1 : Int32) (v2 : Int32) (v3 : Int32) (v4 : Int32) : wpX_put (fun r u' => wpY_put (fun r' v' => r' = r ∧ i_Rel (k + 5) u' v') v v1 v2 v3 v4) u v1 v2 v3 v4 := by
  refine zz_el (Z := fun u v => wpX_put (fun r u' => wpY_put (fun r' v' => r' = r ∧ i_Rel (k + 5) u' v') v v1 v2 v3 v4) u v1 v2 v3 v4) ?_ I
  intro nd ky wd len jn cp stm fd fc ack N md ch sr hs st lr L pl va rq rs fi sz uc ur uk uv uo aq ar wk hP hD hA
  have R : i_Rel (k + 5) (cr_xs nd ky wd len jn cp lr md pl ch sr va rq rs fi sz uc ur uk uv uo st aq ar) (cr_ys nd ky wd len ack stm fd lr L md ch hs sr wk) := zz_in hP hD hA
  have hC : (pi_C nd ky wd len) := hP.1
  have hK : (pi_K nd len jn md ch pl) := hP.2.1
  have hky : ky ≤ 8 := hC.2.2.2.1
  unfold wpX_put
  rcases pk_ix v3 (n := ky) (by omega) with z | z | ⟨t, ht, e⟩
  · exact xw_isKey_f (Or.inl z) (xw_admit_b (Or.inr (Or.inr rfl)) (br_f (by decide) (yw_put_b hky (Or.inr (Or.inr (Or.inl z))) ⟨rfl, R⟩)))
  · exact xw_isKey_f (Or.inr z) (xw_admit_b (Or.inr (Or.inr rfl)) (br_f (by decide) (yw_put_b hky (Or.inr (Or.inr (Or.inr z))) ⟨rfl, R⟩)))
  · subst e
    refine xw_isKey_t ht hky ?_
    by_cases hq : v2 < 1
    · exact xw_admit_b (Or.inr (Or.inl hq)) (br_f (by decide) (yw_put_b hky (Or.inr (Or.inl hq)) ⟨rfl, R⟩))
    · rcases pk_ix v1 (n := 4) (by omega) with y | y | ⟨c, hc, e⟩
      · exact xw_admit_b (Or.inl (Or.inl y)) (br_f (by decide) (yw_put_b hky (Or.inl (Or.inl y)) ⟨rfl, R⟩))
      · exact xw_admit_b (Or.inl (Or.inr y)) (br_f (by decide) (yw_put_b hky (Or.inl (Or.inr y)) ⟨rfl, R⟩))
      · subst e
        have Y : ∀ qr : Int32 → SY → Prop, wpY_enter (fun r v' => qr r v') (cr_ys nd ky wd len ack stm fd lr L md ch hs sr wk) (nI 1) (nI c) v2 (nI t) (nI t) v4 → wpY_put qr (cr_ys nd ky wd len ack stm fd lr L md ch hs sr wk) (nI c) v2 (nI t) v4 := fun qr h => by
          unfold wpY_put
          exact yw_noClient_f hc (br_t rfl (br_f hq (yw_noKey_f ht hky (br_t rfl h))))
        rcases ad_both (lr := lr) (pl := pl) (aq := aq) (ar := ar) (wk := wk) hP hD hc hq with ⟨r, hr, hx, hy⟩ | ⟨hx, hy, up, hn, hw, hf, hlt⟩
        · exact hx _ (br_f hr (Y _ (hy _ _ _ _ _ ⟨rfl, R⟩)))
        · refine hx _ (br_t rfl ?_)
          refine xw_enter (e := (1, c, v2, t, t, v4)) hP hD hA up hn hw hf (wf_new (by omega) hc hq ht ht (by omega) (fun _ => rfl)) hlt rfl rfl rfl vl_put.1.symm vl_put.2.symm ?_
          intro fc' va' rq' rs' fi' sz' uc' ur' uk' uv' uo' aq' ar' P2 D2 A2
          exact Y _ (hy _ _ _ _ _ (yw_e150 (a := 1) hC hK hn ⟨rfl, zz_in P2 D2 A2⟩))
theorem i_vc_add {k : Nat} {u : SX} {v : SY} (I : i_Rel k u v) (hk : k + 5 ≤ 2564) (v1 : Int32) (v2 : Int32) (v3 : Int32) (v4 : Int32) : wpX_add (fun r u' => wpY_add (fun r' v' => r' = r ∧ i_Rel (k + 5) u' v') v v1 v2 v3 v4) u v1 v2 v3 v4 := by
  refine zz_el (Z := fun u v => wpX_add (fun r u' => wpY_add (fun r' v' => r' = r ∧ i_Rel (k + 5) u' v') v v1 v2 v3 v4) u v1 v2 v3 v4) ?_ I
  intro nd ky wd len jn cp stm fd fc ack N md ch sr hs st lr L pl va rq rs fi sz uc ur uk uv uo aq ar wk hP hD hA
  have R : i_Rel (k + 5) (cr_xs nd ky wd len jn cp lr md pl ch sr va rq rs fi sz uc ur uk uv uo st aq ar) (cr_ys nd ky wd len ack stm fd lr L md ch hs sr wk) := zz_in hP hD hA
  have hC : (pi_C nd ky wd len) := hP.1
  have hK : (pi_K nd len jn md ch pl) := hP.2.1
  have hH : (pi_H wd len ack N md ch sr hs) := hP.2.2.1
  have hL : (pi_L ky N L) := hP.2.2.2.1
  have hky : ky ≤ 8 := hC.2.2.2.1
  unfold wpX_add
  rcases pk_ix v3 (n := ky) (by omega) with z | z | ⟨t, ht, e⟩
  · exact xw_isKey_f (Or.inl z) (xw_admit_b (Or.inr (Or.inr rfl)) (br_f (by decide) (yw_add_b hky (Or.inr (Or.inr (Or.inl z))) ⟨rfl, R⟩)))
  · exact xw_isKey_f (Or.inr z) (xw_admit_b (Or.inr (Or.inr rfl)) (br_f (by decide) (yw_add_b hky (Or.inr (Or.inr (Or.inr z))) ⟨rfl, R⟩)))
  · subst e
    refine xw_isKey_t ht hky ?_
    by_cases hq : v2 < 1
    · exact xw_admit_b (Or.inr (Or.inl hq)) (br_f (by decide) (yw_add_b hky (Or.inr (Or.inl hq)) ⟨rfl, R⟩))
    · rcases pk_ix v1 (n := 4) (by omega) with y | y | ⟨c, hc, e⟩
      · exact xw_admit_b (Or.inl (Or.inl y)) (br_f (by decide) (yw_add_b hky (Or.inl (Or.inl y)) ⟨rfl, R⟩))
      · exact xw_admit_b (Or.inl (Or.inr y)) (br_f (by decide) (yw_add_b hky (Or.inl (Or.inr y)) ⟨rfl, R⟩))
      · subst e
        have Y : ∀ qr : Int32 → SY → Prop, wpY_enter (fun r v' => qr r v') (cr_ys nd ky wd len ack stm fd lr L md ch hs sr wk) (nI 2) (nI c) v2 (nI t) (nI t) v4 → wpY_add qr (cr_ys nd ky wd len ack stm fd lr L md ch hs sr wk) (nI c) v2 (nI t) v4 := fun qr h => by
          unfold wpY_add
          exact yw_noClient_f hc (br_t rfl (br_f hq (yw_noKey_f ht hky (br_t rfl h))))
        rcases ad_both (lr := lr) (pl := pl) (aq := aq) (ar := ar) (wk := wk) hP hD hc hq with ⟨r, hr, hx, hy⟩ | ⟨hx, hy, up, hn, hw, hf, hlt⟩
        · exact hx _ (br_f hr (Y _ (hy _ _ _ _ _ ⟨rfl, R⟩)))
        · have h06 := kk_lt hK hC (p := 0) (by have := hC.2.2.2.2.2.2.1; omega)
          have hj := gt_j hK h06 (Or.inl up)
          have hle := (hH.2.1 _ h06).1
          have ez : sz (nI (ch 0)).toNatClampNeg = nI (hs (ch 0) - sr (ch 0)) := by rw [nI_clamp (by omega)]; exact (hD.1 _ h06 hj).2.2.2.1
          refine hx _ (br_t rfl (nm_r (e' := nI (ch 0)) rfl (And.intro (vp_in_nI (by omega) (by decide)) ?_)))
          rw [ez]
          refine xw_value hD hL h06 hj hky ht (Nat.le_refl _) (hH.2.1 _ h06).2.1 ?_
          rw [show sr (ch 0) + (hs (ch 0) - sr (ch 0)) = hs (ch 0) by omega]
          refine xw_enter (e := (2, c, v2, t, t, v4)) hP hD hA up hn hw hf (wf_new (by omega) hc hq ht ht (by omega) (fun _ => rfl)) hlt rfl rfl rfl vl_add.1.symm vl_add.2.symm ?_
          intro fc' va' rq' rs' fi' sz' uc' ur' uk' uv' uo' aq' ar' P2 D2 A2
          exact Y _ (hy _ _ _ _ _ (yw_e150 (a := 2) hC hK hn ⟨rfl, zz_in P2 D2 A2⟩))
theorem i_vc_move {k : Nat} {u : SX} {v : SY} (I : i_Rel k u v) (hk : k + 5 ≤ 2564) (v1 : Int32) (v2 : Int32) (v3 : Int32) (v4 : Int32) : wpX_move (fun r u' => wpY_move (fun r' v' => r' = r ∧ i_Rel (k + 5) u' v') v v1 v2 v3 v4) u v1 v2 v3 v4 := by
  refine zz_el (Z := fun u v => wpX_move (fun r u' => wpY_move (fun r' v' => r' = r ∧ i_Rel (k + 5) u' v') v v1 v2 v3 v4) u v1 v2 v3 v4) ?_ I
  intro nd ky wd len jn cp stm fd fc ack N md ch sr hs st lr L pl va rq rs fi sz uc ur uk uv uo aq ar wk hP hD hA
  have R : i_Rel (k + 5) (cr_xs nd ky wd len jn cp lr md pl ch sr va rq rs fi sz uc ur uk uv uo st aq ar) (cr_ys nd ky wd len ack stm fd lr L md ch hs sr wk) := zz_in hP hD hA
  have hC : (pi_C nd ky wd len) := hP.1
  have hK : (pi_K nd len jn md ch pl) := hP.2.1
  have hH : (pi_H wd len ack N md ch sr hs) := hP.2.2.1
  have hL : (pi_L ky N L) := hP.2.2.2.1
  have hky : ky ≤ 8 := hC.2.2.2.1
  have B : ∀ pr : Int32 → SX → Prop, pr (-1) (cr_xs nd ky wd len jn cp lr md pl ch sr va rq rs fi sz uc ur uk uv uo st aq ar) → wX_move_27 pr v1 v2 v3 v4 (nI nd) (nI ky) (nI wd) 6 (nI len) (cr_jI jn) (nI cp) lr (cr_nF md) pl (cr_nF ch) (cr_nF sr) va rq rs fi sz uc ur uk uv uo (cr_nF st) aq ar := fun pr h => by
    unfold wX_move_27 wX_move_28
    exact xw_admit_b (Or.inr (Or.inr rfl)) (br_f (by decide) h)
  unfold wpX_move
  rcases pk_ix v3 (n := ky) (by omega) with z | z | ⟨f, hf, e⟩
  · exact xw_isKey_f (Or.inl z) (br_t rfl (B _ (yw_mov_b hky (Or.inr (Or.inr (Or.inl (Or.inl z)))) ⟨rfl, R⟩)))
  · exact xw_isKey_f (Or.inr z) (br_t rfl (B _ (yw_mov_b hky (Or.inr (Or.inr (Or.inl (Or.inr z)))) ⟨rfl, R⟩)))
  · subst e
    refine xw_isKey_t hf hky (br_f (by decide) ?_)
    rcases pk_ix v4 (n := ky) (by omega) with z | z | ⟨t, ht, e⟩
    · exact xw_isKey_f (Or.inl z) (br_t rfl (B _ (yw_mov_b hky (Or.inr (Or.inr (Or.inr (Or.inl (Or.inl z))))) ⟨rfl, R⟩)))
    · exact xw_isKey_f (Or.inr z) (br_t rfl (B _ (yw_mov_b hky (Or.inr (Or.inr (Or.inr (Or.inl (Or.inr z))))) ⟨rfl, R⟩)))
    · subst e
      refine xw_isKey_t ht hky (br_f (by decide) ?_)
      by_cases eft : nI f = nI t
      · exact br_t eft (B _ (yw_mov_b hky (Or.inr (Or.inr (Or.inr (Or.inr eft)))) ⟨rfl, R⟩))
      · have nft : t ≠ f := fun x => eft (by rw [x])
        refine br_f eft ?_
        unfold wX_move_28
        by_cases hq : v2 < 1
        · exact xw_admit_b (Or.inr (Or.inl hq)) (br_f (by decide) (yw_mov_b hky (Or.inr (Or.inl hq)) ⟨rfl, R⟩))
        · rcases pk_ix v1 (n := 4) (by omega) with y | y | ⟨c, hc, e⟩
          · exact xw_admit_b (Or.inl (Or.inl y)) (br_f (by decide) (yw_mov_b hky (Or.inl (Or.inl y)) ⟨rfl, R⟩))
          · exact xw_admit_b (Or.inl (Or.inr y)) (br_f (by decide) (yw_mov_b hky (Or.inl (Or.inr y)) ⟨rfl, R⟩))
          · subst e
            have Y : ∀ qr : Int32 → SY → Prop, wpY_enter (fun r v' => qr r v') (cr_ys nd ky wd len ack stm fd lr L md ch hs sr wk) (nI 3) (nI c) v2 (nI f) (nI t) 0 → wpY_move qr (cr_ys nd ky wd len ack stm fd lr L md ch hs sr wk) (nI c) v2 (nI f) (nI t) := fun qr h => by
              unfold wpY_move
              exact yw_noClient_f hc (br_t rfl (br_f hq (yw_noKey_f hf hky (br_t rfl (yw_noKey_f ht hky (br_t rfl (br_f eft h)))))))
            rcases ad_both (lr := lr) (pl := pl) (aq := aq) (ar := ar) (wk := wk) hP hD hc hq with ⟨r, hr, hx, hy⟩ | ⟨hx, hy, up, hn, hw, hff, hlt⟩
            · exact hx _ (br_f hr (Y _ (hy _ _ _ _ _ ⟨rfl, R⟩)))
            · have h06 := kk_lt hK hC (p := 0) (by have := hC.2.2.2.2.2.2.1; omega)
              have hj := gt_j hK h06 (Or.inl up)
              have hle := (hH.2.1 _ h06).1
              have v7 : vp_in (nI (ch 0)) 7 := vp_in_nI (by omega) (by decide)
              have ez : sz (nI (ch 0)).toNatClampNeg = nI (hs (ch 0) - sr (ch 0)) := by rw [nI_clamp (by omega)]; exact (hD.1 _ h06 hj).2.2.2.1
              refine hx _ (br_t rfl (nm_r (e' := nI (ch 0)) rfl (And.intro v7 ?_)))
              rw [ez]
              refine xw_value hD hL h06 hj hky hf (Nat.le_refl _) (hH.2.1 _ h06).2.1 ?_
              rw [show sr (ch 0) + (hs (ch 0) - sr (ch 0)) = hs (ch 0) by omega]
              refine And.intro v7 ?_
              refine xw_value hD hL h06 hj hky ht (Nat.le_refl _) (hH.2.1 _ h06).2.1 ?_
              rw [show sr (ch 0) + (hs (ch 0) - sr (ch 0)) = hs (ch 0) by omega]
              refine xw_enter (e := (3, c, v2, f, t, 0)) hP hD hA up hn hw hff (wf_new (by omega) hc hq ht hf (fun _ x => nft x.symm) (by omega)) hlt rfl rfl rfl (vl_mov nft).1.symm (vl_mov nft).2.symm ?_
              intro fc' va' rq' rs' fi' sz' uc' ur' uk' uv' uo' aq' ar' P2 D2 A2
              exact Y _ (hy _ _ _ _ _ (yw_e150 (a := 3) hC hK hn ⟨rfl, zz_in P2 D2 A2⟩))
end
section
section
variable {nd ky wd len jn cp stm fd fc ack N : Nat} {md ch sr hs st : Nat → Nat} {lr : Int32} {L : Nat → cr_E} {pl va rq rs fi sz uc ur uk uv uo aq ar wk : Nat → Int32}
variable {po : Int32 → Prop} {ps : SX → Prop} {pr : Int32 → SX → Prop}
theorem xw_setL' {r s n : Nat} {x : Int32} (hx : x = nI r) (ha : cr_at L uc ur uk uv uo s n) (hw : cr_wh L n < 4) (hr : r < 6) (hs56 : s < 56)
    (hp : ps (cr_xs nd ky wd len jn cp lr md pl ch sr va (upd rq (r * 4 + cr_wh L n) (cr_nu L n)) (upd rs (r * 4 + cr_wh L n) (cr_vl L n)) fi sz uc ur uk uv uo st aq ar)) : wpX_setLatest ps (cr_xs nd ky wd len jn cp lr md pl ch sr va rq rs fi sz uc ur uk uv uo st aq ar) x (nI s) := by
  subst hx
  exact xw_setL ha hw hr hs56 hp
theorem xw_need {j : Nat} (hcp : cp ≤ 12) (hst : ∀ i, i < cp → st i ≤ 200) (hfd : fd ≤ 200) (hj : j < 100) (h1 : j < cp → st j ≤ fd → po 1) (h0 : ¬ (j < cp ∧ st j ≤ fd) → po 0) : wpX_itemNeeds po (cr_xs nd ky wd len jn cp lr md pl ch sr va rq rs fi sz uc ur uk uv uo st aq ar) (nI j) (nI (fd + 1)) := by
  unfold wpX_itemNeeds
  refine pk_le cp j (fun a => h0 (fun x => by omega)) (fun a => And.intro (vp_in_nI (by omega) (by decide)) ?_)
  have := hst j a
  rw [nf_at (by omega)]
  exact pk_le (fd + 1) (st j) (fun b => h0 (fun x => by omega)) (fun b => h1 a (by omega))
theorem xw_a119 {s f c : Nat} (hj : jn < 6) (hky : ky ≤ 8) (hcp : cp ≤ 12) (hst : ∀ i, i < cp → st i ≤ 200) (hfd : fd ≤ 200) (ha : cr_at L uc ur uk uv uo s fd) (hw : cr_wh L fd < 4) (hs56 : s < 56) (hf : f < 8) (e : fi 6 = nI f) (hz : sz 6 = nI (c + 1))
    (hp : ∀ rq' rs', (∀ k, k < 4 → rq' (jn * 4 + k) = (if ky + k < cp ∧ st (ky + k) ≤ fd ∧ cr_wh L fd = k then cr_nu L fd else rq (jn * 4 + k)) ∧ rs' (jn * 4 + k) = (if ky + k < cp ∧ st (ky + k) ≤ fd ∧ cr_wh L fd = k then cr_vl L fd else rs (jn * 4 + k))) →
      (∀ j k, j ≠ jn → k < 4 → rq' (j * 4 + k) = rq (j * 4 + k) ∧ rs' (j * 4 + k) = rs (j * 4 + k)) → ps (cr_xs nd ky wd len jn cp lr md pl ch sr va rq' rs' (upd fi 6 (nI ((f + 1) % 8))) (upd sz 6 (nI c)) uc ur uk uv uo st aq ar)) :
    wX_absorb_119 ps (nI (fd + 1)) (nI s) (nI nd) (nI ky) (nI wd) 6 (nI len) (cr_jI jn) (nI cp) lr (cr_nF md) pl (cr_nF ch) (cr_nF sr) va rq rs fi sz uc ur uk uv uo (cr_nF st) aq ar := by
  have v : vp_in (nI s) 56 := vp_in_nI hs56 (by decide)
  have e1 : nI ky + uc (nI s).toNatClampNeg = nI (ky + cr_wh L fd) := by rw [nI_clamp (by omega), ha.1, nI_add]
  unfold wX_absorb_119
  refine And.intro v ?_
  rw [e1]
  refine xw_need hcp hst hfd (by omega) (fun a b => ?_) (fun a => ?_)
  · refine br_f (by decide) ?_
    refine xw_setL' (ji_lt hj) ha hw hj hs56 ?_
    show wX_absorb_147 ps (nI nd) (nI ky) (nI wd) 6 (nI len) (cr_jI jn) (nI cp) lr (cr_nF md) pl (cr_nF ch) (cr_nF sr) va ((upd rq (jn * 4 + cr_wh L fd) (cr_nu L fd))) ((upd rs (jn * 4 + cr_wh L fd) (cr_vl L fd))) fi sz uc ur uk uv uo (cr_nF st) aq ar
    unfold wX_absorb_147
    refine xw_drop (r := 6) (by omega) hf e hz (hp _ _ (fun k hk => ?_) (fun j k hjj hk => ?_))
    · by_cases z : cr_wh L fd = k
      · subst z
        rw [if_pos ⟨a, b, rfl⟩, if_pos ⟨a, b, rfl⟩]
        exact ⟨pk_us, pk_us⟩
      · rw [if_neg (fun x => z x.2.2), if_neg (fun x => z x.2.2), pk_un (by omega), pk_un (by omega)]
        exact ⟨rfl, rfl⟩
    · exact ⟨pk_un (by omega), pk_un (by omega)⟩
  · refine br_t rfl ?_
    unfold wX_absorb_147
    refine xw_drop (r := 6) (by omega) hf e hz (hp _ _ (fun k hk => ?_) (fun j k hjj hk => ⟨rfl, rfl⟩))
    have n : ¬ (ky + k < cp ∧ st (ky + k) ≤ fd ∧ cr_wh L fd = k) := fun x => a (by rw [x.2.2]; exact ⟨x.1, x.2.1⟩)
    rw [if_neg n, if_neg n]
    exact ⟨rfl, rfl⟩
theorem xw_a76 {s : Nat} (hj : jn < 6) (hky : ky ≤ 8) (hcp : cp ≤ 12) (hst : ∀ i, i < cp → st i ≤ 200) (hfd : fd ≤ 200) (ha : cr_at L uc ur uk uv uo s fd) (w : cr_wf L ky fd) (hs56 : s < 56)
    (hp : ∀ va', (∀ k, k < 8 → va' (jn * 8 + k) = if k < cp ∧ st k ≤ fd ∧ cr_so L fd = k ∧ cr_kd L fd = 3 then 0 else va (jn * 8 + k)) → (∀ j k, j ≠ jn → k < 8 → va' (j * 8 + k) = va (j * 8 + k)) → wX_absorb_119 ps (nI (fd + 1)) (nI s) (nI nd) (nI ky) (nI wd) 6 (nI len) (cr_jI jn) (nI cp) lr (cr_nF md) pl (cr_nF ch) (cr_nF sr) va' rq rs fi sz uc ur uk uv uo (cr_nF st) aq ar) :
    wX_absorb_76 ps (nI (fd + 1)) (nI s) (nI nd) (nI ky) (nI wd) 6 (nI len) (cr_jI jn) (nI cp) lr (cr_nF md) pl (cr_nF ch) (cr_nF sr) va rq rs fi sz uc ur uk uv uo (cr_nF st) aq ar := by
  have v : vp_in (nI s) 56 := vp_in_nI hs56 (by decide)
  have e1 : uo (nI s).toNatClampNeg = cr_ot L fd := by rw [nI_clamp (by omega)]; exact ha.2.2.2.2
  have w5 : cr_so L fd < ky := w.2.2.2.2.1
  unfold wX_absorb_76
  refine And.intro v ?_
  rw [e1]
  rcases cr_ot_ge w hky with ⟨h1, h2, h3⟩ | ⟨h1, h2, h3, h4⟩
  · refine br_f h3 (And.intro v ?_)
    have e2 : cr_jI jn * 8 + nI (cr_so L fd) = nI (jn * 8 + cr_so L fd) := by rw [ji_lt hj, n_m8]
    rw [h2]
    refine xw_need hcp hst hfd (by omega) (fun a b => ?_) (fun a => ?_)
    · refine br_f (by decide) (And.intro v ?_)
      rw [e2]
      refine And.intro (vp_in_nI (by omega) (by decide)) (nm_r (up_c (by omega)) (hp _ (fun k hk => ?_) (fun j k hjj hk => ?_)))
      · by_cases z : cr_so L fd = k
        · rw [if_pos ⟨by omega, by rw [← z]; exact b, z, h1⟩, z]
          exact pk_us
        · rw [if_neg (fun x => z x.2.2.1), pk_un (by omega)]
      · rw [pk_un (by omega)]
    · refine br_t rfl (hp va (fun k hk => ?_) (fun j k hjj hk => rfl))
      rw [if_neg (fun x => a (by rw [x.2.2.1]; exact ⟨x.1, x.2.1⟩))]
  · refine br_t h3 (hp va (fun k hk => ?_) (fun j k hjj hk => rfl))
    rw [if_neg (fun x => h1 x.2.2.2)]
theorem xw_absorb (hP : (pi_P nd ky wd len jn cp stm fd fc ack N md ch sr hs st L pl)) (hD : (cr_D L ky jn cp fd fc sr hs st va rq rs fi sz uc ur uk uv uo)) (hj : jn < 6) (hu : md (ch (len - 1)) = 10) (hc : 0 < fc)
    (hp : ∀ va' rq' rs' fi' sz', (cr_D L ky jn cp (fd + 1) (fc - 1) sr hs st va' rq' rs' fi' sz' uc ur uk uv uo) → ps (cr_xs nd ky wd len jn cp lr md pl ch sr va' rq' rs' fi' sz' uc ur uk uv uo st aq ar)) : wpX_absorb ps (cr_xs nd ky wd len jn cp lr md pl ch sr va rq rs fi sz uc ur uk uv uo st aq ar) := by
  obtain ⟨hC, hK, hH, hL, hT⟩ := hP
  have hl1 : 1 ≤ len := hC.2.2.2.2.2.2.1
  have hl2 : len ≤ nd := hC.2.2.2.2.2.2.2
  have hn6 : nd ≤ 6 := hC.2.1
  have hky : ky ≤ 8 := hC.2.2.2.1
  have t6 := kk_lt hK hC (p := len - 1) (by omega)
  have et := hH.2.2.2.1 hu
  have h200 := hh_200 hH t6
  have hN := (hH.2.1 _ t6).2.1
  obtain ⟨t1, t2, t3⟩ := hT.2.2.2.2.1 hj hu
  have hfd := hT.1
  have hcp : cp ≤ 12 := by have := hT.2.1; omega
  have hst : ∀ i, i < cp → st i ≤ 200 := fun i hi => by have := t3 i hi; omega
  have w := (hL fd (by omega)).1
  have w' := w
  obtain ⟨w1, w2, w3, w4, w5, w6, w7⟩ := w'
  obtain ⟨g1, g2, f, hf, ef, hat⟩ := hD.2.2
  have ha : cr_at L uc ur uk uv uo (6 * 8 + (f + 0) % 8) fd := hat 0 hc
  have s56 : 6 * 8 + (f + 0) % 8 < 56 := by omega
  have v : vp_in (nI (6 * 8 + (f + 0) % 8)) 56 := vp_in_nI s56 (by decide)
  have ez : sz 6 = nI (fc - 1 + 1) := by rw [g2, show fc - 1 + 1 = fc by omega]
  unfold wpX_absorb
  refine And.intro (by rw [n_pred hl1]; exact vp_in_nI (by omega) (by decide)) (nm_r (e' := nI (ch (len - 1))) (by rw [n_pred hl1, nf_at (by omega)]) (And.intro (vp_in_nI t6 (by decide)) (nm_r (e' := nI (fd + 1)) ?_ ?_)))
  · rw [nf_at (by omega), et, ← t1, g2, pk_sub (by omega), nI_1, show fd + fc - fc + 1 = fd + 1 by omega]
  · refine xw_slot (r := 6) (i := 0) (by omega) hf (by omega) ef (And.intro v ?_)
    have e3 : uk (nI (6 * 8 + (f + 0) % 8)).toNatClampNeg = nI (cr_ta L fd) := by rw [nI_clamp (by omega)]; exact ha.2.2.1
    have e4 : uv (nI (6 * 8 + (f + 0) % 8)).toNatClampNeg = cr_vl L fd := by rw [nI_clamp (by omega)]; exact ha.2.2.2.1
    have e5 : cr_jI jn * 8 + nI (cr_ta L fd) = nI (jn * 8 + cr_ta L fd) := by rw [ji_lt hj, n_m8]
    rw [e3, e4]
    refine xw_need hcp hst hfd (by omega) (fun a b => ?_) (fun a => ?_)
    · refine br_f (by decide) (And.intro v (And.intro v ?_))
      rw [e5]
      refine And.intro (vp_in_nI (by omega) (by decide)) (nm_r (up_c (by omega)) ?_)
      refine xw_a76 hj hky hcp hst hfd ha w s56 (fun va' k1 k2 => ?_)
      refine xw_a119 hj hky hcp hst hfd ha w2 s56 hf ef ez (fun rq' rs' k3 k4 => ?_)
      refine hp va' rq' rs' _ _ (cd_absorb hD hky hc w hf ef (fun k hk => ?_) (fun j k hjj hk => ?_) k3 k4)
      · rw [k1 k (by omega)]
        by_cases z : cr_ta L fd = k
        · rw [if_pos (c := k < cp ∧ st k ≤ fd ∧ cr_ta L fd = k) ⟨by omega, by rw [← z]; exact b, z⟩, if_neg (fun x => by have := w6 x.2.2.2; omega), z]
          exact pk_us
        · rw [if_neg (c := k < cp ∧ st k ≤ fd ∧ cr_ta L fd = k) (fun x => z x.2.2), pk_un (by omega)]
          by_cases y : k < cp ∧ st k ≤ fd ∧ cr_so L fd = k
          · rw [if_pos y, if_pos ⟨y.1, y.2.1, y.2.2, by rcases w1 with q | q | q <;> first | exact q | (have := w7 (by omega); omega)⟩]
          · rw [if_neg y, if_neg (fun x => y ⟨x.1, x.2.1, x.2.2.1⟩)]
      · rw [k2 j k hjj hk, pk_un (by omega)]
    · refine br_t rfl ?_
      refine xw_a76 hj hky hcp hst hfd ha w s56 (fun va' k1 k2 => ?_)
      refine xw_a119 hj hky hcp hst hfd ha w2 s56 hf ef ez (fun rq' rs' k3 k4 => ?_)
      refine hp va' rq' rs' _ _ (cd_absorb hD hky hc w hf ef (fun k hk => ?_) k2 k3 k4)
      rw [k1 k (by omega), if_neg (c := k < cp ∧ st k ≤ fd ∧ cr_ta L fd = k) (fun x => a (by rw [x.2.2]; exact ⟨x.1, x.2.1⟩))]
      by_cases y : k < cp ∧ st k ≤ fd ∧ cr_so L fd = k
      · rw [if_pos y, if_pos ⟨y.1, y.2.1, y.2.2, by
          rcases w1 with q | q | q
          · have := w7 (by omega)
            exact absurd ⟨by omega, by rw [← this, y.2.2]; exact y.2.1⟩ a
          · have := w7 (by omega)
            exact absurd ⟨by omega, by rw [← this, y.2.2]; exact y.2.1⟩ a
          · exact q⟩]
      · rw [if_neg y, if_neg (fun x => y ⟨x.1, x.2.1, x.2.2.1⟩)]
end
end
section
section
variable {nd ky wd len jn cp stm fd fc ack N : Nat} {md ch sr hs st : Nat → Nat} {lr : Int32} {L : Nat → cr_E} {pl va rq rs fi sz uc ur uk uv uo aq ar wk : Nat → Int32}
variable {po : Int32 → Prop} {ps : SX → Prop} {pr : Int32 → SX → Prop} {qs : SY → Prop} {qr : Int32 → SY → Prop}
/-- the stable lengths when the member at place p takes an update -/
def pi_ds (len p : Nat) (sr hs ch : Nat → Nat) : Nat → Nat := if p = len - 1 then cr_uN sr (ch p) (hs (ch p) + 1) else sr
theorem pq_ds (h : (pi_P nd ky wd len jn cp stm fd fc ack N md ch sr hs st L pl)) {p : Nat} (hp1 : 1 ≤ p) (hp : p < len) (hup : md (ch p) = 10) (hsrc : md (ch (p - 1)) = 10) (hne : hs (ch p) ≠ hs (ch (p - 1))) {fc' : Nat}
    (hf : p = len - 1 → jn < 6 → fc < wd ∧ fc' = fc + 1) (hf' : p ≠ len - 1 ∨ jn = 6 → fc' = fc) :
    (pi_P nd ky wd len jn cp stm fd fc' ack N md ch (pi_ds len p sr hs ch) (cr_uN hs (ch p) (hs (ch p) + 1)) st L pl) := by
  by_cases z : p = len - 1
  · have es : pi_ds len p sr hs ch = cr_uN sr (ch p) (hs (ch p) + 1) := if_pos z
    rw [es]
    exact pq_delT h hp1 hp hup hsrc hne z (hf z) (fun y => hf' (Or.inr y))
  · have es : pi_ds len p sr hs ch = sr := if_neg z
    rw [es, hf' (Or.inl z)]
    exact pq_del h hp1 hp hup hsrc hne z
theorem xw_m76 {p : Nat} (hP : (pi_P nd ky wd len jn cp stm fd fc ack N md ch sr hs st L pl)) (hD : (cr_D L ky jn cp fd fc sr hs st va rq rs fi sz uc ur uk uv uo)) (hA : (cr_AK L ack aq ar)) (hp1 : 1 ≤ p) (hpl : p < len) (hup : md (ch p) = 10) (hsrc : md (ch (p - 1)) = 10) (hne : hs (ch p) ≠ hs (ch (p - 1)))
    (hf : p = len - 1 → jn < 6 → fc < wd)
    (hp : ∀ fc' va' rq' rs' fi' sz' uc' ur' uk' uv' uo' aq' ar', (pi_P nd ky wd len jn cp stm fd fc' ack N md ch (pi_ds len p sr hs ch) (cr_uN hs (ch p) (hs (ch p) + 1)) st L pl) →
      (cr_D L ky jn cp fd fc' (pi_ds len p sr hs ch) (cr_uN hs (ch p) (hs (ch p) + 1)) st va' rq' rs' fi' sz' uc' ur' uk' uv' uo') →
      (cr_AK L ack aq' ar') → pr 0 (cr_xs nd ky wd len jn cp lr md pl ch (pi_ds len p sr hs ch) va' rq' rs' fi' sz' uc' ur' uk' uv' uo' st aq' ar')) :
    wX_deliverToMember_76 pr (nI (ch p)) (nI (ch (p - 1))) (nI (hs (ch p))) (nI nd) (nI ky) (nI wd) 6 (nI len) (cr_jI jn) (nI cp) lr (cr_nF md) pl (cr_nF ch) (cr_nF sr) va rq rs fi sz uc ur uk uv uo (cr_nF st) aq ar := by
  have hP' := hP
  obtain ⟨hC, hK, hH, hL, hT⟩ := hP'
  have hw8 : wd ≤ 8 := hC.2.2.2.2.2.1
  have h6 := kk_lt hK hC hpl
  have h6' := kk_lt hK hC (p := p - 1) (by omega)
  have hj := gt_j hK h6 (Or.inl hup)
  have hj' := gt_j hK h6' (Or.inl hsrc)
  obtain ⟨m1, m2⟩ := hH.2.2.1 (p - 1) p (by omega) hpl hsrc hup
  obtain ⟨a1, a2, a3, a4⟩ := hH.2.1 _ h6
  obtain ⟨b1, b2, b3, b4⟩ := hH.2.1 _ h6'
  have h200 := hH.1
  have ei : nI (hs (ch p)) - cr_nF sr (nI (ch (p - 1))).toNatClampNeg = nI (hs (ch p) - sr (ch (p - 1))) := by rw [nf_at (by omega), pk_sub (by omega)]
  have eh : cr_uN hs (ch p) (hs (ch p) + 1) (ch p) = hs (ch p) + 1 := cr_uNs
  unfold wX_deliverToMember_76
  refine And.intro (vp_in_nI h6' (by decide)) ?_
  rw [ei]
  refine xw_fwd (n := hs (ch p)) hD h6' hj' (by omega) (by omega) ?_
  refine xw_appN hD h6 hj (by omega) (fun sz' uc' ur' uk' uv' uo' D2 => ?_)
  show wpX_afterAppend _ (cr_xs nd ky wd len jn cp lr md pl ch sr va rq rs fi sz' uc' ur' uk' uv' uo' st aq ar) _
  refine xw_after (p := p) hC hK hL D2 hpl rfl (by rw [eh]; omega) (by rw [eh]; omega) (fun z => ?_) (fun z hj6 => ?_) (fun z fc' va' rq' rs' fi' sz'' uc'' ur'' uk'' uv'' uo'' f1 f2 D3 => ?_)
  · have es : pi_ds len p sr hs ch = sr := if_neg z
    have P2 := pq_ds hP hp1 hpl hup hsrc hne (fc' := fc) (fun y => absurd y z) (fun _ => rfl)
    show wpX_publish _ (cr_xs nd ky wd len jn cp lr md pl ch sr va rq rs fi sz' uc' ur' uk' uv' uo' st aq ar)
    refine xw_publish hC hK D2 hA (fun aq' ar' A2 => ?_)
    rw [sa_id hH] at A2
    rw [es] at hp P2
    exact hp fc _ _ _ _ _ _ _ _ _ _ aq' ar' P2 D2 A2
  · have et := hT.2.2.2.2.1 hj6 (by rw [← z]; exact hup)
    have e1 := et.1
    rw [← z] at e1
    have := hf z hj6
    rw [eh]
    omega
  · have es : pi_ds len p sr hs ch = cr_uN sr (ch p) (hs (ch p) + 1) := if_pos z
    have P2 := pq_ds hP hp1 hpl hup hsrc hne (fc' := fc') (fun _ x => ⟨hf z x, f2 x⟩) (fun y => f1 (by omega))
    rw [eh] at D3 ⊢
    rw [es] at hp P2
    show wpX_publish _ (cr_xs nd ky wd len jn cp lr md pl ch (cr_uN sr (ch p) (hs (ch p) + 1)) va' rq' rs' fi' sz'' uc'' ur'' uk'' uv'' uo'' st aq ar)
    refine xw_publish hC hK D3 hA (fun aq' ar' A2 => ?_)
    rw [sa_id P2.2.2.1] at A2
    exact hp fc' va' rq' rs' fi' sz'' uc'' ur'' uk'' uv'' uo'' aq' ar' P2 D3 A2
theorem xw_delM {p : Nat} (hP : (pi_P nd ky wd len jn cp stm fd fc ack N md ch sr hs st L pl)) (hD : (cr_D L ky jn cp fd fc sr hs st va rq rs fi sz uc ur uk uv uo)) (hA : (cr_AK L ack aq ar)) (hp1 : 1 ≤ p) (hpl : p < len)
    (hd : md (ch p) ≠ 10 → pr (-3) (cr_xs nd ky wd len jn cp lr md pl ch sr va rq rs fi sz uc ur uk uv uo st aq ar)) (hd' : md (ch p) = 10 → md (ch (p - 1)) ≠ 10 → pr (-3) (cr_xs nd ky wd len jn cp lr md pl ch sr va rq rs fi sz uc ur uk uv uo st aq ar))
    (h4 : md (ch p) = 10 → md (ch (p - 1)) = 10 → hs (ch p) = hs (ch (p - 1)) → pr (-4) (cr_xs nd ky wd len jn cp lr md pl ch sr va rq rs fi sz uc ur uk uv uo st aq ar))
    (h5 : md (ch p) = 10 → md (ch (p - 1)) = 10 → hs (ch p) ≠ hs (ch (p - 1)) → p = len - 1 → jn < 6 → wd ≤ fc → pr (-5) (cr_xs nd ky wd len jn cp lr md pl ch sr va rq rs fi sz uc ur uk uv uo st aq ar))
    (h0 : md (ch p) = 10 → md (ch (p - 1)) = 10 → hs (ch p) ≠ hs (ch (p - 1)) → (p = len - 1 → jn < 6 → fc < wd) → wX_deliverToMember_76 pr (nI (ch p)) (nI (ch (p - 1))) (nI (hs (ch p))) (nI nd) (nI ky) (nI wd) 6 (nI len) (cr_jI jn) (nI cp) lr (cr_nF md) pl (cr_nF ch) (cr_nF sr) va rq rs fi sz uc ur uk uv uo (cr_nF st) aq ar) :
    wpX_deliver pr (cr_xs nd ky wd len jn cp lr md pl ch sr va rq rs fi sz uc ur uk uv uo st aq ar) (nI (ch p)) := by
  obtain ⟨hC, hK, hH, hL, hT⟩ := hP
  have hn6 : nd ≤ 6 := hC.2.1
  have hl2 : len ≤ nd := hC.2.2.2.2.2.2.2
  have hw8 : wd ≤ 8 := hC.2.2.2.2.2.1
  have h6 := kk_lt hK hC hpl
  have h6' := kk_lt hK hC (p := p - 1) (by omega)
  have hnd := (hK.2.2.1 p hpl).1
  have ml := kk_mlt hK h6
  have ml' := kk_mlt hK h6'
  have up := kk_up hK hpl
  have v : vp_in (nI (ch p)) 6 := vp_in_nI h6 (by decide)
  have epl : pl (nI (ch p)).toNatClampNeg = nI p := by rw [nI_clamp (by omega)]; exact kk_pl hK hpl
  unfold wpX_deliver
  refine xw_isNode_t hnd hn6 (br_f (by decide) (And.intro v (br_f (nf_f (k := 0) (by omega) (by omega) ml (by omega)) (And.intro v (br_f (by rw [epl]; exact nI_ne0 (by omega) (by omega)) (And.intro v ?_))))))
  by_cases z : md (ch p) = 10
  · have hj := gt_j hK h6 (Or.inl z)
    refine br_f (nf_f (k := 20) (by omega) (by omega) ml (by omega)) (And.intro v (br_f (nf_f (k := 1) (by omega) (by omega) ml (by omega)) ?_))
    unfold wpX_deliverToMember
    have e1 : cr_nF ch (nI p - 1).toNatClampNeg = nI (ch (p - 1)) := by rw [n_pred (by omega), nf_at (by omega)]
    refine And.intro v (nm_r epl (br_t (nI_le (a := 1) hp1 (by omega)) (And.intro (by rw [n_pred (by omega)]; exact vp_in_nI (by omega) (by decide)) (nm_r e1 (And.intro (vp_in_nI h6' (by decide)) ?_)))))
    by_cases y : md (ch (p - 1)) = 10
    · have hj' := gt_j hK h6' (Or.inl y)
      have a1 := (hh_200 hH h6).2.1
      have a2 := (hh_200 hH h6').2.1
      refine br_t (nf_t y (by omega)) (xw_reach hD h6 hj (xw_reach hD h6' hj' ?_))
      refine pk_eq (hs (ch p)) (hs (ch (p - 1))) (fun x => h4 z y x) (fun x => ?_)
      refine xw_isTail h6 (kk_pl hK hpl) (by omega) (by omega) (by omega) (fun w => br_f (by decide) ?_) (fun w => br_t rfl (h0 z y x (fun q => absurd q w)))
      exact xw_full hK.1 hw8 hD.2.2.2.1 hD.2.2.1 (fun q => br_t rfl (h0 z y x (fun _ _ => by omega))) (fun q1 q2 => br_f (by decide) (h5 z y x w q1 q2))
    · exact br_f (nf_f (k := 10) y (by omega) ml' (by omega)) (hd' z y)
  · exact br_t (nf_t (k := 20) (by omega) (by omega)) (hd z)
theorem yw_192 {p : Nat} (hP : (pi_P nd ky wd len jn cp stm fd fc ack N md ch sr hs st L pl)) (hp1 : 1 ≤ p) (hpl : p < len) (hp : qr 0 (cr_ys nd ky wd len (pi_sa ack md ch (pi_ds len p sr hs ch)) stm fd lr L md ch (cr_uN hs (ch p) (hs (ch p) + 1)) (pi_ds len p sr hs ch) wk)) :
    wY_deliver_192 qr (nI (ch p)) (nI (ch (len - 1))) (nI nd) (nI ky) (nI wd) (nI len) (nI ack) (nI stm) (nI fd) lr (cr_nF (cr_kd L)) (cr_nF (cr_wh L)) (cr_nu L) (cr_nF (cr_so L)) (cr_nF (cr_ta L)) (cr_am L) (cr_nF md) (cr_nF ch) (cr_nF hs) (cr_nF sr) wk := by
  obtain ⟨hC, hK, hH, hL, hT⟩ := hP
  have h6 := kk_lt hK hC hpl
  have t6 := kk_lt hK hC (p := len - 1) (by omega)
  have v : vp_in (nI (ch p)) 6 := vp_in_nI h6 (by decide)
  have c0 : (nI (ch p)).toNatClampNeg = ch p := nI_clamp (by omega)
  have u7 : upd (cr_nF hs) (nI (ch p)).toNatClampNeg (cr_nF hs (nI (ch p)).toNatClampNeg + 1) = cr_nF (cr_uN hs (ch p) (hs (ch p) + 1)) := by rw [nf_at (by omega), c0, nI_1, cr_upd]
  unfold wY_deliver_192
  refine And.intro v (And.intro v (nm_r u7 ?_))
  refine pk_eq (ch p) (ch (len - 1)) (fun x => ?_) (fun x => ?_)
  · have z : p = len - 1 := kk_inj hK hC hpl (by omega) x
    have es : pi_ds len p sr hs ch = cr_uN sr (ch p) (hs (ch p) + 1) := if_pos z
    rw [es] at hp
    have u8 : upd (cr_nF sr) (nI (ch p)).toNatClampNeg (cr_nF (cr_uN hs (ch p) (hs (ch p) + 1)) (nI (ch p)).toNatClampNeg) = cr_nF (cr_uN sr (ch p) (hs (ch p) + 1)) := by
      rw [nf_at (by omega), cr_uNs, c0, cr_upd]
    refine And.intro v (And.intro v (nm_r u8 ?_))
    unfold wY_deliver_219
    exact yw_settle hC hK hp
  · have z : p ≠ len - 1 := fun y => x (by rw [y])
    have es : pi_ds len p sr hs ch = sr := if_neg z
    rw [es] at hp
    unfold wY_deliver_219
    exact yw_settle hC hK hp
theorem yw_delM {p : Nat} (hP : (pi_P nd ky wd len jn cp stm fd fc ack N md ch sr hs st L pl)) (hp1 : 1 ≤ p) (hpl : p < len)
    (hd : md (ch p) ≠ 10 → qr (-3) (cr_ys nd ky wd len ack stm fd lr L md ch hs sr wk)) (hd' : md (ch p) = 10 → md (ch (p - 1)) ≠ 10 → qr (-3) (cr_ys nd ky wd len ack stm fd lr L md ch hs sr wk))
    (h4 : md (ch p) = 10 → md (ch (p - 1)) = 10 → hs (ch p) = hs (ch (p - 1)) → qr (-4) (cr_ys nd ky wd len ack stm fd lr L md ch hs sr wk))
    (h5 : md (ch p) = 10 → md (ch (p - 1)) = 10 → hs (ch p) ≠ hs (ch (p - 1)) → p = len - 1 → jn < 6 → wd ≤ fc → qr (-5) (cr_ys nd ky wd len ack stm fd lr L md ch hs sr wk))
    (h0 : md (ch p) = 10 → md (ch (p - 1)) = 10 → hs (ch p) ≠ hs (ch (p - 1)) → (p = len - 1 → jn < 6 → fc < wd) → wY_deliver_192 qr (nI (ch p)) (nI (ch (len - 1))) (nI nd) (nI ky) (nI wd) (nI len) (nI ack) (nI stm) (nI fd) lr (cr_nF (cr_kd L)) (cr_nF (cr_wh L)) (cr_nu L) (cr_nF (cr_so L)) (cr_nF (cr_ta L)) (cr_am L) (cr_nF md) (cr_nF ch) (cr_nF hs) (cr_nF sr) wk) :
    wpY_deliver qr (cr_ys nd ky wd len ack stm fd lr L md ch hs sr wk) (nI (ch p)) := by
  obtain ⟨hC, hK, hH, hL, hT⟩ := hP
  have hn6 : nd ≤ 6 := hC.2.1
  have hl2 : len ≤ nd := hC.2.2.2.2.2.2.2
  have hw8 : wd ≤ 8 := hC.2.2.2.2.2.1
  have h6 := kk_lt hK hC hpl
  have h06 := kk_lt hK hC (p := 0) (by omega)
  have t6 := kk_lt hK hC (p := len - 1) (by omega)
  have h6' := kk_lt hK hC (p := p - 1) (by omega)
  have hnd := (hK.2.2.1 p hpl).1
  have ml := kk_mlt hK h6
  have ml' := kk_mlt hK h6'
  have up := kk_up hK hpl
  have v : vp_in (nI (ch p)) 6 := vp_in_nI h6 (by decide)
  have v' : vp_in (nI (ch (p - 1))) 6 := vp_in_nI h6' (by decide)
  have a1 := (hh_200 hH h6).2.1
  have a2 := (hh_200 hH h6').2.1
  have n0 : ¬ nI (ch p) = cr_nF ch 0 := fun x => by
    have := (nI_eq (by omega) (by omega)).mp x
    have := kk_inj hK hC hpl (by omega) this
    omega
  have e1 : cr_nF ch (nI p - 1).toNatClampNeg = nI (ch (p - 1)) := by rw [n_pred (by omega), nf_at (by omega)]
  unfold wpY_deliver
  refine yw_noNode_f hnd hn6 (br_t rfl (And.intro v (br_f (nf_f (k := 0) (by omega) (by omega) ml (by omega)) (br_f n0 ?_))))
  refine yw_tail hC (And.intro v (br_f (nf_f (k := 1) (by omega) (by omega) ml (by omega)) ?_))
  refine yw_place hC hK hpl (br_t (nI_le (a := 1) hp1 (by omega)) (And.intro (by rw [n_pred (by omega)]; exact vp_in_nI (by omega) (by decide)) (nm_r e1 (And.intro v ?_))))
  by_cases z : md (ch p) = 10
  · refine br_t (nf_t z (by omega)) (And.intro v' ?_)
    by_cases y : md (ch (p - 1)) = 10
    · refine br_t (nf_t y (by omega)) (And.intro v (And.intro v' ?_))
      rw [nf_at (by omega), nf_at (by omega)]
      refine pk_eq (hs (ch p)) (hs (ch (p - 1))) (fun x => h4 z y x) (fun x => ?_)
      refine pk_eq (ch p) (ch (len - 1)) (fun w => ?_) (fun w => h0 z y x (fun q => absurd (by rw [q]) w))
      have wp : p = len - 1 := kk_inj hK hC hpl (by omega) w
      refine yw_hj hC hK (fun q => br_f (by decide) (And.intro (vp_in_nI t6 (by decide)) ?_)) (fun q => br_t rfl (h0 z y x (fun _ r => by omega)))
      have t := hT.2.2.2.2.1 q (by rw [← wp]; exact z)
      have tt := t.2.1
      have ef : cr_nF hs (nI (ch (len - 1))).toNatClampNeg - nI fd = nI fc := by rw [nf_at (by omega), ← t.1, pk_sub (by omega), show fd + fc - fd = fc by omega]
      rw [ef]
      exact pk_lt fc wd (fun r => h0 z y x (fun _ _ => r)) (fun r => h5 z y x wp q r)
    · exact br_f (nf_f (k := 10) y (by omega) ml' (by omega)) (hd' z y)
  · exact br_f (nf_f (k := 10) z (by omega) ml (by omega)) (hd z)
end
theorem i_vc_deliver {k : Nat} {u : SX} {v : SY} (I : i_Rel k u v) (hk : k + 5 ≤ 2564) (v1 : Int32) : wpX_deliver (fun r u' => wpY_deliver (fun r' v' => r' = r ∧ i_Rel (k + 5) u' v') v v1) u v1 := by
  refine zz_el (Z := fun u v => wpX_deliver (fun r u' => wpY_deliver (fun r' v' => r' = r ∧ i_Rel (k + 5) u' v') v v1) u v1) ?_ I
  intro nd ky wd len jn cp stm fd fc ack N md ch sr hs st lr L pl va rq rs fi sz uc ur uk uv uo aq ar wk hP hD hA
  have R : i_Rel (k + 5) (cr_xs nd ky wd len jn cp lr md pl ch sr va rq rs fi sz uc ur uk uv uo st aq ar) (cr_ys nd ky wd len ack stm fd lr L md ch hs sr wk) := zz_in hP hD hA
  have hP' := hP
  obtain ⟨hC, hK, hH, hL, hT⟩ := hP'
  have hn6 : nd ≤ 6 := hC.2.1
  have hl1 : 1 ≤ len := hC.2.2.2.2.2.2.1
  have h06 := kk_lt hK hC (p := 0) (by omega)
  have bad : v1 < 0 ∨ nI nd ≤ v1 → wpX_deliver (fun r u' => wpY_deliver (fun r' v' => r' = r ∧ i_Rel (k + 5) u' v') (cr_ys nd ky wd len ack stm fd lr L md ch hs sr wk) v1) (cr_xs nd ky wd len jn cp lr md pl ch sr va rq rs fi sz uc ur uk uv uo st aq ar) v1 := fun z => by
    unfold wpX_deliver
    refine xw_isNode_f z (br_t rfl ?_)
    unfold wpY_deliver
    exact yw_noNode_t z (br_f (by decide) ⟨rfl, R⟩)
  rcases pk_ix v1 (n := nd) (by omega) with z | z | ⟨i, hi, e⟩
  · exact bad (Or.inl z)
  · exact bad (Or.inr z)
  · subst e
    have i6 : i < 6 := by omega
    have v : vp_in (nI i) 6 := vp_in_nI i6 (by decide)
    have ml := kk_mlt hK i6
    have ci : (nI i).toNatClampNeg = i := nI_clamp (by omega)
    rcases kk_c hK i6 with ⟨a1, a2⟩ | ⟨a1, a2, a3, a4⟩ | ⟨p, hp, e, a1, a2⟩
    · unfold wpX_deliver
      refine xw_isNode_t hi hn6 (br_f (by decide) (And.intro v (br_t (nf_t (k := 0) a1 (by omega)) ?_)))
      unfold wpY_deliver
      exact yw_noNode_f hi hn6 (br_t rfl (And.intro v (br_t (nf_t (k := 0) a1 (by omega)) ⟨rfl, R⟩)))
    · have hj6 : jn < 6 := by omega
      have t6 := kk_lt hK hC (p := len - 1) (by omega)
      have tv : vp_in (nI (ch (len - 1))) 6 := vp_in_nI t6 (by decide)
      have YY : ∀ qr : Int32 → SY → Prop, (md (ch (len - 1)) ≠ 10 → qr (-3) (cr_ys nd ky wd len ack stm fd lr L md ch hs sr wk)) → (md (ch (len - 1)) = 10 → fc = 0 → qr (-4) (cr_ys nd ky wd len ack stm fd lr L md ch hs sr wk)) → (md (ch (len - 1)) = 10 → fc ≠ 0 → qr 0 (cr_ys nd ky wd len ack stm (fd + 1) lr L md ch hs sr wk)) → wpY_deliver qr (cr_ys nd ky wd len ack stm fd lr L md ch hs sr wk) (nI i) := by
        intro qr y1 y2 y3
        have n0 : ¬ nI i = cr_nF ch 0 := fun x => by
          have := (nI_eq (by omega) (by omega)).mp x
          have up := kk_up hK (p := 0) (by omega)
          rw [← this] at up
          omega
        unfold wpY_deliver
        refine yw_noNode_f hi hn6 (br_t rfl (And.intro v (br_f (nf_f (k := 0) (by omega) (by omega) ml (by omega)) (br_f n0 ?_))))
        refine yw_tail hC (And.intro v (br_t (nf_t (k := 1) a1 (by omega)) (And.intro tv ?_)))
        by_cases w : md (ch (len - 1)) = 10
        · refine br_t (nf_t w (by omega)) (And.intro tv ?_)
          have t := hT.2.2.2.2.1 hj6 w
          have tt := t.2.1
          have hw8 : wd ≤ 8 := hC.2.2.2.2.2.1
          have ef : cr_nF hs (nI (ch (len - 1))).toNatClampNeg - nI fd = nI fc := by rw [nf_at (by omega), ← t.1, pk_sub (by omega), show fd + fc - fd = fc by omega]
          rw [ef]
          exact pk_eq fc 0 (fun x => y2 w x) (fun x => nm_r (nI_1 _) (y3 w x))
        · exact br_f (nf_f (k := 10) w (by omega) (kk_mlt hK t6) (by omega)) (y1 w)
      unfold wpX_deliver
      refine xw_isNode_t hi hn6 (br_f (by decide) (And.intro v (br_f (nf_f (k := 0) (by omega) (by omega) ml (by omega)) (And.intro v (br_f (by rw [ci, a2]; decide) (And.intro v (br_f (nf_f (k := 20) (by omega) (by omega) ml (by omega)) (And.intro v (br_t (nf_t (k := 1) a1 (by omega)) ?_)))))))))
      unfold wpX_deliverToJoiner
      refine xw_tailIsUp hC hK (fun w => br_f (by decide) ?_) (fun w => br_t rfl (YY _ (fun _ => ⟨rfl, R⟩) (fun x => absurd x w) (fun x => absurd x w)))
      have e6 : sz 6 = nI fc := hD.2.2.2.1
      have f8 := hD.2.2.1
      rw [e6]
      refine pk_eq fc 0 (fun x => YY _ (fun y => absurd w y) (fun _ _ => ⟨rfl, R⟩) (fun _ y => absurd x y)) (fun x => ?_)
      refine xw_absorb hP hD hj6 w (by omega) (fun va' rq' rs' fi' sz' D2 => ?_)
      exact YY _ (fun y => absurd w y) (fun _ y => absurd y x) (fun _ _ => ⟨rfl, zz_in (pq_absorb hP hj6 w (by omega)) D2 hA⟩)
    · subst e
      by_cases p0 : p = 0
      · subst p0
        unfold wpX_deliver
        refine xw_isNode_t hi hn6 (br_f (by decide) (And.intro v (br_f (nf_f (k := 0) (by omega) (by omega) ml (by omega)) (And.intro v (br_t (by rw [ci, a2]; rfl) ?_)))))
        unfold wpY_deliver
        exact yw_noNode_f hi hn6 (br_t rfl (And.intro v (br_f (nf_f (k := 0) (by omega) (by omega) ml (by omega)) (br_t rfl ⟨rfl, R⟩))))
      · refine xw_delM hP hD hA (by omega) hp (fun x => ?_) (fun x y => ?_) (fun x y z => ?_) (fun x y z w q1 q2 => ?_) (fun x y z w => ?_)
        · exact yw_delM hP (by omega) hp (fun _ => ⟨rfl, R⟩) (fun q => absurd q x) (fun q => absurd q x) (fun q => absurd q x) (fun q => absurd q x)
        · exact yw_delM hP (by omega) hp (fun q => absurd x q) (fun _ _ => ⟨rfl, R⟩) (fun _ q => absurd q y) (fun _ q => absurd q y) (fun _ q => absurd q y)
        · exact yw_delM hP (by omega) hp (fun q => absurd x q) (fun _ q => absurd y q) (fun _ _ _ => ⟨rfl, R⟩) (fun _ _ q => absurd z q) (fun _ _ q => absurd z q)
        · exact yw_delM hP (by omega) hp (fun q => absurd x q) (fun _ q => absurd y q) (fun _ _ q => absurd q z) (fun _ _ _ _ _ _ => ⟨rfl, R⟩) (fun _ _ _ q => by have := q w q1; omega)
        · refine xw_m76 hP hD hA (by omega) hp x y z w (fun fc' va' rq' rs' fi' sz' uc' ur' uk' uv' uo' aq' ar' P2 D2 A2 => ?_)
          refine yw_delM hP (by omega) hp (fun q => absurd x q) (fun _ q => absurd y q) (fun _ _ q => absurd q z) (fun _ _ _ q1 q2 q3 => by have := w q1 q2; omega) (fun _ _ _ _ => ?_)
          refine yw_192 hP (by omega) hp ⟨rfl, ?_⟩
          rw [sa_id P2.2.2.1]
          exact zz_in P2 D2 A2
end
section
section
variable {nd ky wd len jn cp stm fd fc ack N : Nat} {md ch sr hs st : Nat → Nat} {lr : Int32} {L : Nat → cr_E} {pl va rq rs fi sz uc ur uk uv uo aq ar wk : Nat → Int32}
variable {po : Int32 → Prop} {ps : SX → Prop} {pr : Int32 → SX → Prop} {qs : SY → Prop} {qr : Int32 → SY → Prop}
theorem kk_np (hK : (pi_K nd len jn md ch pl)) {i : Nat} (hm : md i = 0 ∨ md i = 1) : ∀ q, q < len → ch q ≠ i := fun q hq e => by
  have := kk_up hK hq
  rw [e] at this
  omega
theorem yw_ackM {p : Nat} (hP : (pi_P nd ky wd len jn cp stm fd fc ack N md ch sr hs st L pl)) (hpl : p < len)
    (h2 : p = len - 1 → qr (-2) (cr_ys nd ky wd len ack stm fd lr L md ch hs sr wk)) (hd : p ≠ len - 1 → (md (ch p) ≠ 10 ∨ md (ch (p + 1)) ≠ 10) → qr (-3) (cr_ys nd ky wd len ack stm fd lr L md ch hs sr wk))
    (h4 : p ≠ len - 1 → md (ch p) = 10 → md (ch (p + 1)) = 10 → sr (ch p) = sr (ch (p + 1)) → qr (-4) (cr_ys nd ky wd len ack stm fd lr L md ch hs sr wk))
    (h0 : p ≠ len - 1 → md (ch p) = 10 → md (ch (p + 1)) = 10 → sr (ch p) ≠ sr (ch (p + 1)) → qr 0 (cr_ys nd ky wd len (pi_sa ack md ch (cr_uN sr (ch p) (sr (ch p) + 1))) stm fd lr L md ch hs (cr_uN sr (ch p) (sr (ch p) + 1)) wk)) :
    wpY_acknowledge qr (cr_ys nd ky wd len ack stm fd lr L md ch hs sr wk) (nI (ch p)) := by
  obtain ⟨hC, hK, hH, hL, hT⟩ := hP
  have hn6 : nd ≤ 6 := hC.2.1
  have hl1 : 1 ≤ len := hC.2.2.2.2.2.2.1
  have hl2 : len ≤ nd := hC.2.2.2.2.2.2.2
  have h6 := kk_lt hK hC hpl
  have ml := kk_mlt hK h6
  have v : vp_in (nI (ch p)) 6 := vp_in_nI h6 (by decide)
  have hnd := (hK.2.2.1 p hpl).1
  unfold wpY_acknowledge
  refine yw_noNode_f hnd hn6 (br_t rfl (yw_place hC hK hpl (br_f (nI_pos (by omega)) ?_)))
  rw [n_pred hl1]
  refine pk_lt p (len - 1) (fun a => And.intro (by rw [nI_1]; exact vp_in_nI (by omega) (by decide)) (nm_r (e' := nI (ch (p + 1))) (by rw [nI_1, nf_at (by omega)]) (And.intro v ?_))) (fun a => h2 (by omega))
  have h6' := kk_lt hK hC (p := p + 1) (by omega)
  have ml' := kk_mlt hK h6'
  have v' : vp_in (nI (ch (p + 1))) 6 := vp_in_nI h6' (by decide)
  by_cases y : md (ch p) = 10
  · refine br_t (nf_t y (by omega)) (And.intro v' ?_)
    by_cases z : md (ch (p + 1)) = 10
    · refine br_t (nf_t z (by omega)) (And.intro v (And.intro v' ?_))
      have a1 := hh_200 hH h6
      have a2 := hh_200 hH h6'
      rw [nf_at (by omega), nf_at (by omega)]
      refine pk_eq (sr (ch p)) (sr (ch (p + 1))) (fun x => h4 (by omega) y z x) (fun x => And.intro v (And.intro v (nm_r (e' := cr_nF (cr_uN sr (ch p) (sr (ch p) + 1))) (by rw [nI_clamp (by omega), nI_1, cr_upd]) ?_)))
      exact yw_settle hC hK (h0 (by omega) y z x)
    · exact br_f (nf_f (k := 10) z (by omega) ml' (by omega)) (hd (by omega) (Or.inr z))
  · exact br_f (nf_f (k := 10) y (by omega) ml (by omega)) (hd (by omega) (Or.inl y))
end
theorem i_vc_acknowledge {k : Nat} {u : SX} {v : SY} (I : i_Rel k u v) (hk : k + 5 ≤ 2564) (v1 : Int32) : wpX_acknowledge (fun r u' => wpY_acknowledge (fun r' v' => r' = r ∧ i_Rel (k + 5) u' v') v v1) u v1 := by
  refine zz_el (Z := fun u v => wpX_acknowledge (fun r u' => wpY_acknowledge (fun r' v' => r' = r ∧ i_Rel (k + 5) u' v') v v1) u v1) ?_ I
  intro nd ky wd len jn cp stm fd fc ack N md ch sr hs st lr L pl va rq rs fi sz uc ur uk uv uo aq ar wk hP hD hA
  have R : i_Rel (k + 5) (cr_xs nd ky wd len jn cp lr md pl ch sr va rq rs fi sz uc ur uk uv uo st aq ar) (cr_ys nd ky wd len ack stm fd lr L md ch hs sr wk) := zz_in hP hD hA
  have hP' := hP
  obtain ⟨hC, hK, hH, hL, hT⟩ := hP'
  have hn6 : nd ≤ 6 := hC.2.1
  have hky : ky ≤ 8 := hC.2.2.2.1
  have hl1 : 1 ≤ len := hC.2.2.2.2.2.2.1
  have hl2 : len ≤ nd := hC.2.2.2.2.2.2.2
  unfold wpX_acknowledge
  have bad : v1 < 0 ∨ nI nd ≤ v1 → wpY_acknowledge (fun r' v' => r' = -1 ∧ i_Rel (k + 5) (cr_xs nd ky wd len jn cp lr md pl ch sr va rq rs fi sz uc ur uk uv uo st aq ar) v') (cr_ys nd ky wd len ack stm fd lr L md ch hs sr wk) v1 := fun z => by
    unfold wpY_acknowledge
    exact yw_noNode_t z (br_f (by decide) ⟨rfl, R⟩)
  rcases pk_ix v1 (n := nd) (by omega) with z | z | ⟨i, hi, e⟩
  · exact xw_isNode_f (Or.inl z) (br_t rfl (bad (Or.inl z)))
  · exact xw_isNode_f (Or.inr z) (br_t rfl (bad (Or.inr z)))
  · subst e
    have i6 : i < 6 := by omega
    have v : vp_in (nI i) 6 := vp_in_nI i6 (by decide)
    have ml := kk_mlt hK i6
    refine xw_isNode_t hi hn6 (br_f (by decide) ?_)
    refine xw_isMember hK i6 (fun m => br_f (by decide) ?_) (fun m => br_t rfl ?_)
    · obtain ⟨p, hp, e, hpl⟩ := kk_mem hK i6 m
      subst e
      have hw : ∀ qr : Int32 → SY → Prop, True := fun _ => trivial
      refine xw_isTail i6 hpl (by omega) hl1 (by omega) (fun a => br_f (by decide) ?_) (fun a => br_t rfl (And.intro v ?_))
      · exact yw_ackM hP hp (fun _ => ⟨rfl, R⟩) (fun x => absurd a x) (fun x => absurd a x) (fun x => absurd a x)
      · have h6' := kk_lt hK hC (p := p + 1) (by omega)
        have ml' := kk_mlt hK h6'
        have v' : vp_in (nI (ch (p + 1))) 6 := vp_in_nI h6' (by decide)
        have ep : pl (nI (ch p)).toNatClampNeg + 1 = nI (p + 1) := by rw [nI_clamp (by omega), hpl, nI_1]
        by_cases d : md (ch p) = 20
        · exact br_t (nf_t (k := 20) d (by omega)) (yw_ackM hP hp (fun x => absurd x a) (fun _ _ => ⟨rfl, R⟩) (fun _ x => by omega) (fun _ x => by omega))
        · have up : md (ch p) = 10 := by omega
          refine br_f (nf_f (k := 20) d (by omega) ml (by omega)) (And.intro v (And.intro (by rw [ep]; exact vp_in_nI (by omega) (by decide)) (nm_r (e' := nI (ch (p + 1))) (by rw [ep, nf_at (by omega)]) (And.intro v' ?_))))
          by_cases z : md (ch (p + 1)) = 10
          · have a1 := hh_200 hH i6
            have a2 := hh_200 hH h6'
            refine br_t (nf_t z (by omega)) (And.intro v (And.intro v' ?_))
            rw [nf_at (by omega), nf_at (by omega)]
            refine pk_eq (sr (ch p)) (sr (ch (p + 1))) (fun x => ?_) (fun x => ?_)
            · exact yw_ackM hP hp (fun x => absurd x a) (fun _ y => by omega) (fun _ _ _ _ => ⟨rfl, R⟩) (fun _ _ _ y => absurd x y)
            · obtain ⟨lt, P2⟩ := pq_ack hP (p := p) (by omega) up z x
              have hj := gt_j hK i6 (Or.inl up)
              refine xw_commit hD hL i6 hj hky lt (hH.2.1 _ i6).2.1 (fun va' rq' rs' fi' sz' D2 => ?_)
              show wpX_publish _ (cr_xs nd ky wd len jn cp lr md pl ch (cr_uN sr (ch p) (sr (ch p) + 1)) va' rq' rs' fi' sz' uc ur uk uv uo st aq ar)
              refine xw_publish hC hK D2 hA (fun aq' ar' A2 => ?_)
              exact yw_ackM hP hp (fun x => absurd x a) (fun _ y => by omega) (fun _ _ _ y => absurd y x) (fun _ _ _ _ => ⟨rfl, zz_in P2 D2 A2⟩)
          · exact br_f (nf_f (k := 10) z (by omega) ml' (by omega)) (yw_ackM hP hp (fun x => absurd x a) (fun _ _ => ⟨rfl, R⟩) (fun _ _ x => absurd x z) (fun _ _ x => absurd x z))
    · unfold wpY_acknowledge
      exact yw_noNode_f hi hn6 (br_t rfl (yw_placeN hC hK i6 (kk_np hK m) (br_t (by decide) ⟨rfl, R⟩)))
end
section
section
variable {nd ky wd len jn cp stm fd fc ack N : Nat} {md ch sr hs st : Nat → Nat} {lr : Int32} {L : Nat → cr_E} {pl va rq rs fi sz uc ur uk uv uo aq ar wk : Nat → Int32}
variable {po : Int32 → Prop} {ps : SX → Prop} {pr : Int32 → SX → Prop} {qs : SY → Prop} {qr : Int32 → SY → Prop}
/-- how many of the first n nodes other than x are up -/
def pi_oth (md : Nat → Nat) (x : Nat) : Nat → Nat
  | 0 => 0
  | n + 1 => pi_oth md x n + (if n ≠ x ∧ md n = 10 then 1 else 0)
theorem ot_le {x : Nat} : ∀ n, pi_oth md x n ≤ n := by
  intro n
  induction n with
  | zero => exact Nat.le_refl 0
  | succ n ih =>
    show pi_oth md x n + _ ≤ n + 1
    split <;> omega
theorem ot_0 {x : Nat} : ∀ n, pi_oth md x n = 0 ↔ ∀ i, i < n → i ≠ x → md i ≠ 10 := by
  intro n
  induction n with
  | zero => exact ⟨fun _ p hp => absurd hp (Nat.not_lt_zero p), fun _ => rfl⟩
  | succ n ih =>
    show pi_oth md x n + _ = 0 ↔ _
    by_cases z : n ≠ x ∧ md n = 10
    · rw [if_pos z]
      exact ⟨fun y => by omega, fun y => absurd z.2 (y n (by omega) z.1)⟩
    · rw [if_neg z]
      constructor
      · intro y p hp hpx
        by_cases q : p = n
        · rw [q] at hpx ⊢
          exact fun w => z ⟨hpx, w⟩
        · exact ih.mp (by omega) p (by omega) hpx
      · intro y
        have := ih.mpr (fun p hp => y p (by omega))
        omega
/-- both count the other members that are up -/
theorem ot_up (hC : (pi_C nd ky wd len)) (hK : (pi_K nd len jn md ch pl)) {p : Nat} (hp : p < len) (hu : md (ch p) = 10) : pi_up md ch len = 1 ↔ pi_oth md (ch p) nd = 0 := by
  have hn6 : nd ≤ 6 := hC.2.1
  rw [up_1 len p hp hu, ot_0]
  constructor
  · intro h i hi hip hm
    obtain ⟨q, hq, e, _⟩ := kk_mem hK (i := i) (by omega) (Or.inl hm)
    refine h q hq (fun z => hip ?_) (by rw [e]; exact hm)
    rw [← e, z]
  · intro h q hq hqp hm
    exact h (ch q) (hK.2.2.1 q hq).1 (fun z => hqp (kk_inj hK hC hq hp z)) hm
theorem yl_crash {p : Nat} (hC : (pi_C nd ky wd len)) (hK : (pi_K nd len jn md ch pl)) (hpl : p < len) (hK' : (pi_K nd len jn (cr_uN md (ch p) 20) ch pl))
    (h8 : pi_oth md (ch p) nd = 0 → qr (-8) (cr_ys nd ky wd len ack stm fd lr L md ch hs sr wk))
    (h0 : pi_oth md (ch p) nd ≠ 0 → ∀ stm', (p = len - 1 → jn < 6 → stm' = 0) → (p ≠ len - 1 ∨ jn = 6 → stm' = stm) → qr 0 (cr_ys nd ky wd len (pi_sa ack (cr_uN md (ch p) 20) ch (cr_uN sr (ch p) 0)) stm' fd lr L (cr_uN md (ch p) 20) ch (cr_uN hs (ch p) 0) (cr_uN sr (ch p) 0) wk)) :
    ∀ d i, i + d = nd → wY_crash_56 qr (nI (ch p)) (nI nd) (nI ky) (nI wd) (nI len) (nI ack) (nI stm) (nI fd) lr (cr_nF (cr_kd L)) (cr_nF (cr_wh L)) (cr_nu L) (cr_nF (cr_so L)) (cr_nF (cr_ta L)) (cr_am L) (cr_nF md) (cr_nF ch) (cr_nF hs) (cr_nF sr) wk (d + 1) (nI (pi_oth md (ch p) i)) (nI i) := by
  have hn6 : nd ≤ 6 := hC.2.1
  have h6 := kk_lt hK hC hpl
  have v : vp_in (nI (ch p)) 6 := vp_in_nI h6 (by decide)
  have c0 : (nI (ch p)).toNatClampNeg = ch p := nI_clamp (by omega)
  have t6 := kk_lt hK hC (p := len - 1) (by omega)
  intro d
  induction d with
  | zero =>
    intro i hi
    have : nd = i := by omega
    subst this
    have ol := ot_le (md := md) (x := ch p) nd
    refine br_t (nI_le (Nat.le_refl nd) (by omega)) ?_
    refine pk_eq (pi_oth md (ch p) nd) 0 (fun x => h8 x) (fun x => ?_)
    have u1 : upd (cr_nF md) (nI (ch p)).toNatClampNeg 20 = cr_nF (cr_uN md (ch p) 20) := by rw [c0]; exact cr_upd md (ch p) 20
    have u2 : upd (cr_nF hs) (nI (ch p)).toNatClampNeg 0 = cr_nF (cr_uN hs (ch p) 0) := by rw [c0]; exact cr_upd hs (ch p) 0
    have u3 : upd (cr_nF sr) (nI (ch p)).toNatClampNeg 0 = cr_nF (cr_uN sr (ch p) 0) := by rw [c0]; exact cr_upd sr (ch p) 0
    refine And.intro v (nm_r u1 (And.intro v (nm_r u2 (And.intro v (nm_r u3 (yw_tail hC ?_))))))
    refine pk_eq (ch p) (ch (len - 1)) (fun y => ?_) (fun y => ?_)
    · have z : p = len - 1 := kk_inj hK hC hpl (by omega) y
      refine yw_hj hC hK' (fun w => br_f (by decide) ?_) (fun w => br_t rfl ?_)
      · show wY_crash_138 qr (nI nd) (nI ky) (nI wd) (nI len) (nI ack) (nI 0) (nI fd) lr (cr_nF (cr_kd L)) (cr_nF (cr_wh L)) (cr_nu L) (cr_nF (cr_so L)) (cr_nF (cr_ta L)) (cr_am L) (cr_nF (cr_uN md (ch p) 20)) (cr_nF ch) (cr_nF (cr_uN hs (ch p) 0)) (cr_nF (cr_uN sr (ch p) 0)) wk
        unfold wY_crash_138
        exact yw_settle hC hK' (h0 x 0 (fun _ _ => rfl) (fun q => by omega))
      · unfold wY_crash_138
        exact yw_settle hC hK' (h0 x stm (fun _ q => by omega) (fun _ => rfl))
    · unfold wY_crash_138
      exact yw_settle hC hK' (h0 x stm (fun q => absurd (by rw [q]) y) (fun _ => rfl))
  | succ d ih =>
    intro i hi
    have I := ih (i + 1) (by omega)
    refine br_f (nI_ge (by omega) (by omega)) ?_
    refine pk_eq i (ch p) (fun x => ?_) (fun x => And.intro (vp_in_nI (by omega) (by decide)) ?_)
    · have q : pi_oth md (ch p) (i + 1) = pi_oth md (ch p) i := by
        show pi_oth md (ch p) i + _ = _
        rw [if_neg (fun z => z.1 x)]
        rfl
      rw [q] at I
      exact nm_r (nI_1 _) I
    · by_cases z : md i = 10
      · have q : pi_oth md (ch p) (i + 1) = pi_oth md (ch p) i + 1 := by
          show pi_oth md (ch p) i + _ = _
          rw [if_pos ⟨x, z⟩]
        rw [q] at I
        exact br_t (nf_t z (by omega)) (nm_r (nI_1 _) (nm_r (nI_1 _) I))
      · have q : pi_oth md (ch p) (i + 1) = pi_oth md (ch p) i := by
          show pi_oth md (ch p) i + _ = _
          rw [if_neg (fun w => z w.2)]
          rfl
        rw [q] at I
        exact br_f (nf_f (k := 10) z (by omega) (kk_mlt hK (by omega)) (by omega)) (nm_r (nI_1 _) I)
theorem yw_crash {p : Nat} (hC : (pi_C nd ky wd len)) (hK : (pi_K nd len jn md ch pl)) (hpl : p < len) (hu : md (ch p) = 10) (hK' : (pi_K nd len jn (cr_uN md (ch p) 20) ch pl))
    (h8 : pi_oth md (ch p) nd = 0 → qr (-8) (cr_ys nd ky wd len ack stm fd lr L md ch hs sr wk))
    (h0 : pi_oth md (ch p) nd ≠ 0 → ∀ stm', (p = len - 1 → jn < 6 → stm' = 0) → (p ≠ len - 1 ∨ jn = 6 → stm' = stm) → qr 0 (cr_ys nd ky wd len (pi_sa ack (cr_uN md (ch p) 20) ch (cr_uN sr (ch p) 0)) stm' fd lr L (cr_uN md (ch p) 20) ch (cr_uN hs (ch p) 0) (cr_uN sr (ch p) 0) wk)) :
    wpY_crash qr (cr_ys nd ky wd len ack stm fd lr L md ch hs sr wk) (nI (ch p)) := by
  have hn6 : nd ≤ 6 := hC.2.1
  have h6 := kk_lt hK hC hpl
  have ml := kk_mlt hK h6
  have v : vp_in (nI (ch p)) 6 := vp_in_nI h6 (by decide)
  unfold wpY_crash
  exact yw_noNode_f (hK.2.2.1 p hpl).1 hn6 (br_t rfl (And.intro v (br_f (nf_f (k := 0) (by omega) (by omega) ml (by omega)) (And.intro v (br_f (nf_f (k := 20) (by omega) (by omega) ml (by omega)) (And.intro v (br_f (nf_f (k := 1) (by omega) (by omega) ml (by omega)) ⟨nd + 1, yl_crash hC hK hpl hK' h8 h0 nd 0 (by omega)⟩)))))))
end
theorem i_vc_crash {k : Nat} {u : SX} {v : SY} (I : i_Rel k u v) (hk : k + 5 ≤ 2564) (v1 : Int32) : wpX_crash (fun r u' => wpY_crash (fun r' v' => r' = r ∧ i_Rel (k + 5) u' v') v v1) u v1 := by
  refine zz_el (Z := fun u v => wpX_crash (fun r u' => wpY_crash (fun r' v' => r' = r ∧ i_Rel (k + 5) u' v') v v1) u v1) ?_ I
  intro nd ky wd len jn cp stm fd fc ack N md ch sr hs st lr L pl va rq rs fi sz uc ur uk uv uo aq ar wk hP hD hA
  have R : i_Rel (k + 5) (cr_xs nd ky wd len jn cp lr md pl ch sr va rq rs fi sz uc ur uk uv uo st aq ar) (cr_ys nd ky wd len ack stm fd lr L md ch hs sr wk) := zz_in hP hD hA
  have hP' := hP
  obtain ⟨hC, hK, hH, hL, hT⟩ := hP'
  have hn6 : nd ≤ 6 := hC.2.1
  have hky : ky ≤ 8 := hC.2.2.2.1
  have hl1 : 1 ≤ len := hC.2.2.2.2.2.2.1
  have hl2 : len ≤ nd := hC.2.2.2.2.2.2.2
  have hjn := hK.1
  unfold wpX_crash
  have bad : v1 < 0 ∨ nI nd ≤ v1 → wpY_crash (fun r' v' => r' = -1 ∧ i_Rel (k + 5) (cr_xs nd ky wd len jn cp lr md pl ch sr va rq rs fi sz uc ur uk uv uo st aq ar) v') (cr_ys nd ky wd len ack stm fd lr L md ch hs sr wk) v1 := fun z => by
    unfold wpY_crash
    exact yw_noNode_t z (br_f (by decide) ⟨rfl, R⟩)
  rcases pk_ix v1 (n := nd) (by omega) with z | z | ⟨i, hi, e⟩
  · exact xw_isNode_f (Or.inl z) (br_t rfl (bad (Or.inl z)))
  · exact xw_isNode_f (Or.inr z) (br_t rfl (bad (Or.inr z)))
  · subst e
    have i6 : i < 6 := by omega
    have v : vp_in (nI i) 6 := vp_in_nI i6 (by decide)
    have ml := kk_mlt hK i6
    have ci : (nI i).toNatClampNeg = i := nI_clamp (by omega)
    refine xw_isNode_t hi hn6 (br_f (by decide) (And.intro v ?_))
    rcases kk_c hK i6 with ⟨a1, a2⟩ | ⟨a1, a2, a3, a4⟩ | ⟨p, hp, e, a1, a2⟩
    · refine br_t (nf_t (k := 0) a1 (by omega)) ?_
      unfold wpY_crash
      exact yw_noNode_f hi hn6 (br_t rfl (And.intro v (br_t (nf_t (k := 0) a1 (by omega)) ⟨rfl, R⟩)))
    · have hj6 : jn < 6 := by omega
      have u1 : upd (cr_nF md) (nI i).toNatClampNeg 0 = cr_nF (cr_uN md jn 0) := by rw [ci, a3]; exact cr_upd md jn 0
      refine br_f (nf_f (k := 0) (by omega) (by omega) ml (by omega)) (And.intro v (br_f (nf_f (k := 20) (by omega) (by omega) ml (by omega)) (And.intro v (br_t (nf_t (k := 1) a1 (by omega)) (And.intro v (nm_r u1 ?_))))))
      show wpX_restartTransfer _ (cr_xs nd ky wd len 6 cp lr (cr_uN md jn 0) pl ch sr va rq rs fi sz uc ur uk uv uo st aq ar)
      refine xw_restart ?_
      show wpX_erase _ (cr_xs nd ky wd len 6 0 lr (cr_uN md jn 0) pl ch sr va rq rs (upd fi 6 0) (upd sz 6 0) uc ur uk uv uo st aq ar) (nI i)
      refine xw_erase i6 (fun va' rq' rs' k1 k2 k3 k4 => ?_)
      have D1 := cd_restart fd hD
      have D2 := cd_erase (r := i) (jm := 6) D1 i6 hky (Or.inr ⟨rfl, a3⟩) (Or.inr rfl) k1 k2 k3 k4
      obtain ⟨z1, z2⟩ := hh_0 hH i6 (by omega)
      rw [cr_uNid z1, cr_uNid z2] at D2
      rw [cr_uNid z1]
      unfold wpY_crash
      exact yw_noNode_f hi hn6 (br_t rfl (And.intro v (br_f (nf_f (k := 0) (by omega) (by omega) ml (by omega)) (And.intro v (br_f (nf_f (k := 20) (by omega) (by omega) ml (by omega)) (And.intro v (br_t (nf_t (k := 1) a1 (by omega)) (And.intro v (nm_r u1 ⟨rfl, zz_in (pq_crashJ hP hj6) D2 hA⟩)))))))))
    · subst e
      refine br_f (nf_f (k := 0) (by omega) (by omega) ml (by omega)) (And.intro v ?_)
      by_cases d : md (ch p) = 20
      · refine br_t (nf_t (k := 20) d (by omega)) ?_
        unfold wpY_crash
        exact yw_noNode_f hi hn6 (br_t rfl (And.intro v (br_f (nf_f (k := 0) (by omega) (by omega) ml (by omega)) (And.intro v (br_t (nf_t (k := 20) d (by omega)) ⟨rfl, R⟩)))))
      · have up : md (ch p) = 10 := by omega
        have hj := gt_j hK i6 (Or.inl up)
        have O := ot_up hC hK hp up
        refine br_f (nf_f (k := 20) d (by omega) ml (by omega)) (And.intro v (br_f (nf_f (k := 1) (by omega) (by omega) ml (by omega)) ?_))
        refine xw_up hC hK ?_
        have ul := up_le (md := md) (ch := ch) len
        have KK : (pi_K nd len jn (cr_uN md (ch p) 20) ch pl) := by
          refine ⟨hK.1, fun z => ?_, fun q hq => ?_, fun i hi => ?_⟩
          · rw [cr_uNn (Ne.symm hj)]
            exact hK.2.1 z
          · obtain ⟨a, b, c⟩ := hK.2.2.1 q hq
            refine ⟨a, ?_, c⟩
            by_cases z : ch q = ch p
            · rw [z, cr_uNs]; exact Or.inr rfl
            · rw [cr_uNn z]; exact b
          · by_cases z : i = ch p
            · exact Or.inr (Or.inr ⟨p, hp, z.symm⟩)
            · rw [cr_uNn z]
              exact hK.2.2.2 i hi
        refine pk_eq (pi_up md ch len) 1 (fun x => ?_) (fun x => ?_)
        · exact yw_crash hC hK hp up KK (fun _ => ⟨rfl, R⟩) (fun y => absurd (O.mp x) y)
        · have nz : pi_oth md (ch p) nd ≠ 0 := fun y => x (O.mpr y)
          have ex : ∃ i, i < 6 ∧ i ≠ ch p ∧ md i = 10 := by
            refine Classical.byContradiction (fun y => nz ((ot_0 nd).mpr (fun i hi hip hm => y ⟨i, by omega, hip, hm⟩)))
          have u1 : upd (cr_nF md) (nI (ch p)).toNatClampNeg 20 = cr_nF (cr_uN md (ch p) 20) := by rw [ci]; exact cr_upd md (ch p) 20
          refine And.intro v (nm_r u1 ?_)
          refine xw_erase i6 (fun va' rq' rs' k1 k2 k3 k4 => ?_)
          have D2 := cd_erase (r := ch p) (jm := jn) hD i6 hky (Or.inl rfl) (Or.inl (Ne.symm hj)) k1 k2 k3 k4
          show wpX_isTail _ (cr_xs nd ky wd len jn cp lr (cr_uN md (ch p) 20) pl ch (cr_uN sr (ch p) 0) va' rq' rs' (upd fi (ch p) 0) (upd sz (ch p) 0) uc ur uk uv uo st aq ar) (nI (ch p))
          refine xw_isTail i6 a2 (by omega) hl1 (by omega) (fun a => br_f (by decide) ?_) (fun a => br_t rfl ?_)
          · refine xw_restart ?_
            have D3 := cd_restart fd D2
            refine yw_crash hC hK hp up KK (fun y => absurd y nz) (fun _ stm' s1 s2 => ⟨rfl, ?_⟩)
            have P2 := pq_crash hP (cp' := 0) (fc' := 0) (stm' := stm') hp up ex (fun y => absurd a y) (fun _ => ⟨rfl, rfl, by
              by_cases w : jn < 6
              · have := s1 a w; omega
              · have := s2 (Or.inr (by omega)); omega, fun w => s1 a w⟩)
            rw [sa_id P2.2.2.1]
            exact zz_in P2 D3 hA
          · refine yw_crash hC hK hp up KK (fun y => absurd y nz) (fun _ stm' s1 s2 => ⟨rfl, ?_⟩)
            have P2 := pq_crash hP (cp' := cp) (fc' := fc) (stm' := stm') hp up ex (fun _ => ⟨rfl, rfl, s2 (Or.inl a)⟩) (fun y => absurd y a)
            rw [sa_id P2.2.2.1]
            exact zz_in P2 D2 hA
end
section
section
variable {nd ky wd len jn cp stm fd fc ack N : Nat} {md ch sr hs st : Nat → Nat} {lr : Int32} {L : Nat → cr_E} {pl va rq rs fi sz uc ur uk uv uo aq ar wk : Nat → Int32}
variable {pl' : Nat → Int32} {po : Int32 → Prop} {ps : SX → Prop} {pr : Int32 → SX → Prop} {qs : SY → Prop} {qr : Int32 → SY → Prop}
theorem yl_spl {p : Nat} {z0 : Int32} (hC : (pi_C nd ky wd len)) (hK : (pi_K nd len jn md ch pl)) (hpl : p < len) (hC' : (pi_C nd ky wd (len - 1))) (hK' : (pi_K nd (len - 1) jn (cr_uN md (ch p) 0) (pi_dl ch p len) pl'))
    (h0 : (z0 = 0 ∨ cr_uN md (ch p) 0 (pi_dl ch p len (len - 1 - 1)) ≠ 10) → qr 0 (cr_ys nd ky wd (len - 1) (pi_sa ack (cr_uN md (ch p) 0) (pi_dl ch p len) sr) stm fd lr L (cr_uN md (ch p) 0) (pi_dl ch p len) hs sr wk))
    (h1 : ¬ z0 = 0 → cr_uN md (ch p) 0 (pi_dl ch p len (len - 1 - 1)) = 10 → ∀ fd' stm', (jn < 6 → fd' = hs (pi_dl ch p len (len - 1 - 1)) ∧ stm' = 0) → (jn = 6 → fd' = fd ∧ stm' = stm) →
      qr 0 (cr_ys nd ky wd (len - 1) (pi_sa ack (cr_uN md (ch p) 0) (pi_dl ch p len) (cr_uN sr (pi_dl ch p len (len - 1 - 1)) (hs (pi_dl ch p len (len - 1 - 1))))) stm' fd' lr L (cr_uN md (ch p) 0) (pi_dl ch p len) hs (cr_uN sr (pi_dl ch p len (len - 1 - 1)) (hs (pi_dl ch p len (len - 1 - 1)))) wk)) :
    ∀ d i, i + d = len - 1 → p ≤ i → wY_splice_62 qr (nI (ch p)) z0 (nI nd) (nI ky) (nI wd) (nI len) (nI ack) (nI stm) (nI fd) lr (d + 1) (nI i) (cr_nF (cr_kd L)) (cr_nF (cr_wh L)) (cr_nu L) (cr_nF (cr_so L)) (cr_nF (cr_ta L)) (cr_am L) (cr_nF md) (cr_nF (pi_sh ch p i)) (cr_nF hs) (cr_nF sr) wk := by
  have hn6 : nd ≤ 6 := hC.2.1
  have hl1 : 1 ≤ len := hC.2.2.2.2.2.2.1
  have hl2 : len ≤ nd := hC.2.2.2.2.2.2.2
  have h6 := kk_lt hK hC hpl
  have v : vp_in (nI (ch p)) 6 := vp_in_nI h6 (by decide)
  intro d
  induction d with
  | zero =>
    intro i hi hpi
    have ei : len - 1 = i := by omega
    subst ei
    have u1 : upd (cr_nF md) (nI (ch p)).toNatClampNeg 0 = cr_nF (cr_uN md (ch p) 0) := by
      rw [nI_clamp (by omega)]
      exact cr_upd md (ch p) 0
    refine br_t (by rw [n_pred hl1]; exact nI_le (Nat.le_refl _) (by omega)) (nm_r (n_pred hl1) (And.intro v (nm_r u1 ?_)))
    have hl1' : 1 ≤ len - 1 := hC'.2.2.2.2.2.2.1
    have t6 := kk_lt hK' hC' (p := len - 1 - 1) (by omega)
    have tv : vp_in (nI (pi_dl ch p len (len - 1 - 1))) 6 := vp_in_nI t6 (by decide)
    refine yw_tail (len := len - 1) (md := cr_uN md (ch p) 0) (ch := pi_dl ch p len) hC' ?_
    by_cases a : z0 = 0
    · refine br_t a ?_
      show wY_splice_171 qr (nI nd) (nI ky) (nI wd) (nI (len - 1)) (nI ack) (nI stm) (nI fd) lr (cr_nF (cr_kd L)) (cr_nF (cr_wh L)) (cr_nu L) (cr_nF (cr_so L)) (cr_nF (cr_ta L)) (cr_am L) (cr_nF (cr_uN md (ch p) 0)) (cr_nF (pi_dl ch p len)) (cr_nF hs) (cr_nF sr) wk
      unfold wY_splice_171
      exact yw_settle hC' hK' (h0 (Or.inl a))
    · refine br_f a (And.intro tv ?_)
      by_cases b : cr_uN md (ch p) 0 (pi_dl ch p len (len - 1 - 1)) = 10
      · have u2 : upd (cr_nF sr) (nI (pi_dl ch p len (len - 1 - 1))).toNatClampNeg (cr_nF hs (nI (pi_dl ch p len (len - 1 - 1))).toNatClampNeg) = cr_nF (cr_uN sr (pi_dl ch p len (len - 1 - 1)) (hs (pi_dl ch p len (len - 1 - 1)))) := by
          rw [nf_at (by omega), nI_clamp (by omega), cr_upd]
        refine br_t (nf_t b (by omega)) (And.intro tv (And.intro tv (nm_r u2 ?_)))
        refine yw_hj hC' hK' (fun w => br_f (by decide) (And.intro tv (nm_r (nf_at (by omega)) ?_))) (fun w => br_t rfl ?_)
        · show wY_splice_171 qr (nI nd) (nI ky) (nI wd) (nI (len - 1)) (nI ack) (nI 0) (nI (hs (pi_dl ch p len (len - 1 - 1)))) lr (cr_nF (cr_kd L)) (cr_nF (cr_wh L)) (cr_nu L) (cr_nF (cr_so L)) (cr_nF (cr_ta L)) (cr_am L) (cr_nF (cr_uN md (ch p) 0)) (cr_nF (pi_dl ch p len)) (cr_nF hs) (cr_nF (cr_uN sr (pi_dl ch p len (len - 1 - 1)) (hs (pi_dl ch p len (len - 1 - 1))))) wk
          unfold wY_splice_171
          exact yw_settle hC' hK' (h1 a b _ 0 (fun _ => ⟨rfl, rfl⟩) (fun x => by omega))
        · show wY_splice_171 qr (nI nd) (nI ky) (nI wd) (nI (len - 1)) (nI ack) (nI stm) (nI fd) lr (cr_nF (cr_kd L)) (cr_nF (cr_wh L)) (cr_nu L) (cr_nF (cr_so L)) (cr_nF (cr_ta L)) (cr_am L) (cr_nF (cr_uN md (ch p) 0)) (cr_nF (pi_dl ch p len)) (cr_nF hs) (cr_nF (cr_uN sr (pi_dl ch p len (len - 1 - 1)) (hs (pi_dl ch p len (len - 1 - 1))))) wk
          unfold wY_splice_171
          exact yw_settle hC' hK' (h1 a b fd stm (fun x => by omega) (fun _ => ⟨rfl, rfl⟩))
      · refine br_f (nf_f (k := 10) b (by omega) (kk_mlt hK' t6) (by omega)) ?_
        show wY_splice_171 qr (nI nd) (nI ky) (nI wd) (nI (len - 1)) (nI ack) (nI stm) (nI fd) lr (cr_nF (cr_kd L)) (cr_nF (cr_wh L)) (cr_nu L) (cr_nF (cr_so L)) (cr_nF (cr_ta L)) (cr_am L) (cr_nF (cr_uN md (ch p) 0)) (cr_nF (pi_dl ch p len)) (cr_nF hs) (cr_nF sr) wk
        unfold wY_splice_171
        exact yw_settle hC' hK' (h0 (Or.inr b))
  | succ d ih =>
    intro i hi hpi
    have e1 : cr_nF (pi_sh ch p i) (nI i + 1).toNatClampNeg = nI (ch (i + 1)) := by rw [nI_1, nf_at (by omega), sh_at hpi]
    have q1 : upd (cr_nF (pi_sh ch p i)) (nI i).toNatClampNeg (cr_nF (pi_sh ch p i) (nI i + 1).toNatClampNeg) = cr_nF (pi_sh ch p (i + 1)) := by
      rw [e1, nI_clamp (by omega), cr_upd, sh_s hpi]
    exact br_f (by rw [n_pred hl1]; exact nI_ge (by omega) (by omega)) (And.intro (by rw [nI_1]; exact vp_in_nI (by omega) (by decide)) (And.intro (vp_in_nI (by omega) (by decide)) (nm_r q1 (nm_r (nI_1 _) (ih (i + 1) (by omega) (by omega))))))
theorem yw_spl {p : Nat} (hP : (pi_P nd ky wd len jn cp stm fd fc ack N md ch sr hs st L pl)) (hpl : p < len) (hd : md (ch p) = 20) (hC' : (pi_C nd ky wd (len - 1))) (hK' : (pi_K nd (len - 1) jn (cr_uN md (ch p) 0) (pi_dl ch p len) pl'))
    (h0 : (p ≠ len - 1 ∨ cr_uN md (ch p) 0 (pi_dl ch p len (len - 1 - 1)) ≠ 10) → qr 0 (cr_ys nd ky wd (len - 1) (pi_sa ack (cr_uN md (ch p) 0) (pi_dl ch p len) sr) stm fd lr L (cr_uN md (ch p) 0) (pi_dl ch p len) hs sr wk))
    (h1 : p = len - 1 → cr_uN md (ch p) 0 (pi_dl ch p len (len - 1 - 1)) = 10 → ∀ fd' stm', (jn < 6 → fd' = hs (pi_dl ch p len (len - 1 - 1)) ∧ stm' = 0) → (jn = 6 → fd' = fd ∧ stm' = stm) →
      qr 0 (cr_ys nd ky wd (len - 1) (pi_sa ack (cr_uN md (ch p) 0) (pi_dl ch p len) (cr_uN sr (pi_dl ch p len (len - 1 - 1)) (hs (pi_dl ch p len (len - 1 - 1))))) stm' fd' lr L (cr_uN md (ch p) 0) (pi_dl ch p len) hs (cr_uN sr (pi_dl ch p len (len - 1 - 1)) (hs (pi_dl ch p len (len - 1 - 1)))) wk)) :
    wpY_splice qr (cr_ys nd ky wd len ack stm fd lr L md ch hs sr wk) (nI (ch p)) := by
  have hl := pq_len2 hP hpl hd
  obtain ⟨hC, hK, hH, hL, hT⟩ := hP
  have hn6 : nd ≤ 6 := hC.2.1
  have hl2 : len ≤ nd := hC.2.2.2.2.2.2.2
  have h6 := kk_lt hK hC hpl
  have t6 := kk_lt hK hC (p := len - 1) (by omega)
  have v : vp_in (nI (ch p)) 6 := vp_in_nI h6 (by decide)
  unfold wpY_splice
  refine yw_noNode_f (hK.2.2.1 p hpl).1 hn6 (br_t rfl (And.intro v (br_t (nf_t (k := 20) hd (by omega)) (yw_tail hC ?_))))
  refine pk_eq (ch p) (ch (len - 1)) (fun x => ?_) (fun x => ?_)
  · have z : p = len - 1 := kk_inj hK hC hpl (by omega) x
    unfold wY_splice_37
    refine yw_place hC hK hpl (br_f (nI_pos (by omega)) (br_t (nI_le (a := 2) hl (by omega)) ⟨len - 1 - p + 1, ?_⟩))
    have := yl_spl (qr := qr) (lr := lr) (L := L) (wk := wk) (ack := ack) (stm := stm) (fd := fd) (z0 := 1) hC hK hpl hC' hK' (fun y => h0 (by rcases y with y | y; exact absurd y (by decide); exact Or.inr y)) (fun _ y => h1 z y) (len - 1 - p) p (by omega) (Nat.le_refl p)
    rw [sh_0] at this
    exact this
  · have z : p ≠ len - 1 := fun y => x (by rw [y])
    unfold wY_splice_37
    refine yw_place hC hK hpl (br_f (nI_pos (by omega)) (br_t (nI_le (a := 2) hl (by omega)) ⟨len - 1 - p + 1, ?_⟩))
    have := yl_spl (qr := qr) (lr := lr) (L := L) (wk := wk) (ack := ack) (stm := stm) (fd := fd) (z0 := 0) hC hK hpl hC' hK' (fun _ => h0 (Or.inl z)) (fun y => absurd rfl y) (len - 1 - p) p (by omega) (Nat.le_refl p)
    rw [sh_0] at this
    exact this
end
theorem i_vc_splice {k : Nat} {u : SX} {v : SY} (I : i_Rel k u v) (hk : k + 5 ≤ 2564) (v1 : Int32) : wpX_splice (fun r u' => wpY_splice (fun r' v' => r' = r ∧ i_Rel (k + 5) u' v') v v1) u v1 := by
  refine zz_el (Z := fun u v => wpX_splice (fun r u' => wpY_splice (fun r' v' => r' = r ∧ i_Rel (k + 5) u' v') v v1) u v1) ?_ I
  intro nd ky wd len jn cp stm fd fc ack N md ch sr hs st lr L pl va rq rs fi sz uc ur uk uv uo aq ar wk hP hD hA
  have R : i_Rel (k + 5) (cr_xs nd ky wd len jn cp lr md pl ch sr va rq rs fi sz uc ur uk uv uo st aq ar) (cr_ys nd ky wd len ack stm fd lr L md ch hs sr wk) := zz_in hP hD hA
  have hP' := hP
  obtain ⟨hC, hK, hH, hL, hT⟩ := hP'
  have hn6 : nd ≤ 6 := hC.2.1
  have hky : ky ≤ 8 := hC.2.2.2.1
  have hl1 : 1 ≤ len := hC.2.2.2.2.2.2.1
  have hl2 : len ≤ nd := hC.2.2.2.2.2.2.2
  have hjn := hK.1
  unfold wpX_splice
  have bad : v1 < 0 ∨ nI nd ≤ v1 → wpY_splice (fun r' v' => r' = -1 ∧ i_Rel (k + 5) (cr_xs nd ky wd len jn cp lr md pl ch sr va rq rs fi sz uc ur uk uv uo st aq ar) v') (cr_ys nd ky wd len ack stm fd lr L md ch hs sr wk) v1 := fun z => by
    unfold wpY_splice
    exact yw_noNode_t z (br_f (by decide) ⟨rfl, R⟩)
  rcases pk_ix v1 (n := nd) (by omega) with z | z | ⟨i, hi, e⟩
  · exact xw_isNode_f (Or.inl z) (br_t rfl (bad (Or.inl z)))
  · exact xw_isNode_f (Or.inr z) (br_t rfl (bad (Or.inr z)))
  · subst e
    have i6 : i < 6 := by omega
    have v : vp_in (nI i) 6 := vp_in_nI i6 (by decide)
    have ml := kk_mlt hK i6
    refine xw_isNode_t hi hn6 (br_f (by decide) (And.intro v ?_))
    by_cases d : md i = 20
    · obtain ⟨p, hp, e, hpl⟩ := kk_mem hK i6 (Or.inr d)
      subst e
      have hl := pq_len2 hP hp d
      have hC' : (pi_C nd ky wd (len - 1)) := by
        obtain ⟨c1, c2, c3, c4, c5, c6, c7, c8⟩ := hC
        exact ⟨c1, c2, c3, c4, c5, c6, by omega, by omega⟩
      refine br_t (nf_t (k := 20) d (by omega)) ?_
      have A0 : ∀ pl', pl' (ch p) = -1 → (∀ q, q < len - 1 → pl' (pi_dl ch p len q) = nI q) → (∀ i, i < 6 → (∀ q, q < len → ch q ≠ i) → pl' i = pl i) →
          (p ≠ len - 1 ∨ cr_uN md (ch p) 0 (pi_dl ch p len (len - 1 - 1)) ≠ 10) → wX_splice_67 (fun r u' => wpY_splice (fun r' v' => r' = r ∧ i_Rel (k + 5) u' v') (cr_ys nd ky wd len ack stm fd lr L md ch hs sr wk) (nI (ch p))) (nI nd) (nI ky) (nI wd) 6 (nI (len - 1)) (cr_jI jn) (nI cp) lr (cr_nF (cr_uN md (ch p) 0)) pl' (cr_nF (pi_dl ch p len)) (cr_nF sr) va rq rs fi sz uc ur uk uv uo (cr_nF st) aq ar := by
        intro pl' p1 p2 p3 ca
        have hK' := pq_spK hC hK hp d hl p1 p2 p3
        unfold wX_splice_67
        refine xw_publish hC' hK' hD hA (fun aq' ar' A2 => ?_)
        have P2 := pq_spA hP hp d p1 p2 p3 (fun y => ca.resolve_left (fun x => x y))
        refine yw_spl hP hp d hC' hK' (fun _ => ⟨rfl, zz_in P2 hD A2⟩) (fun x y => ?_)
        rcases ca with w | w
        · exact absurd x w
        · exact absurd y w
      refine xw_isTail i6 hpl (by omega) hl1 (by omega) (fun a => ?_) (fun a => ?_)
      · refine xw_rem hC hK hp (fun pl' p1 p2 p3 => ?_)
        have hK' := pq_spK hC hK hp d hl p1 p2 p3
        refine br_f (by decide) ?_
        refine xw_tailIsUp hC' hK' (fun w => br_f (by decide) ?_) (fun w => br_t rfl (A0 pl' p1 p2 p3 (Or.inr w)))
        have et : pi_dl ch p len (len - 1 - 1) = ch (len - 1 - 1) := dl_lo (by omega)
        have e1 : nI (len - 1) - 1 = nI (len - 1 - 1) := n_pred (by omega)
        have e2 : cr_nF (pi_dl ch p len) (nI (len - 1) - 1).toNatClampNeg = nI (ch (len - 1 - 1)) := by rw [e1, nf_at (by omega), et]
        have t6 := kk_lt hK hC (p := len - 1 - 1) (by omega)
        have hu : md (ch (len - 1 - 1)) = 10 := by
          rw [et, cr_uNn (fun y => by have := kk_inj hK hC (by omega) hp y; omega)] at w
          exact w
        have tj := gt_j hK t6 (Or.inl hu)
        refine And.intro (by rw [e1]; exact vp_in_nI (by omega) (by decide)) (nm_r e2 ?_)
        refine xw_all hD hL t6 tj hky (hH.2.1 _ t6).2.1 (fun va' rq' rs' fi' sz' D2 => ?_)
        show wpX_restartTransfer _ (cr_xs nd ky wd (len - 1) jn cp lr (cr_uN md (ch p) 0) pl' (pi_dl ch p len) (cr_uN sr (ch (len - 1 - 1)) (hs (ch (len - 1 - 1)))) va' rq' rs' fi' sz' uc ur uk uv uo st aq ar)
        refine xw_restart ?_
        show wX_splice_67 _ (nI nd) (nI ky) (nI wd) 6 (nI (len - 1)) (cr_jI jn) (nI 0) lr (cr_nF (cr_uN md (ch p) 0)) pl' (cr_nF (pi_dl ch p len)) (cr_nF (cr_uN sr (ch (len - 1 - 1)) (hs (ch (len - 1 - 1))))) va' rq' rs' (upd fi' 6 0) (upd sz' 6 0) uc ur uk uv uo (cr_nF st) aq ar
        unfold wX_splice_67
        have D3 : ∀ fd', (cr_D L ky jn 0 fd' 0 (cr_uN sr (ch (len - 1 - 1)) (hs (ch (len - 1 - 1)))) hs st va' rq' rs' (upd fi' 6 0) (upd sz' 6 0) uc ur uk uv uo) := fun fd' => cd_restart fd' D2
        refine xw_publish hC' hK' (D3 fd) hA (fun aq' ar' A2 => ?_)
        refine yw_spl hP hp d hC' hK' (fun x => ?_) (fun x y fd' stm' j1 j2 => ?_)
        · rcases x with x | x
          · exact absurd a x
          · exact absurd w x
        · rw [et] at j1 ⊢
          have P2 := pq_spB hP hp d p1 p2 p3 a hu j1 j2
          exact ⟨rfl, zz_in P2 (D3 fd') A2⟩
      · refine xw_rem hC hK hp (fun pl' p1 p2 p3 => ?_)
        exact br_t rfl (A0 pl' p1 p2 p3 (Or.inl a))
    · refine br_f (nf_f (k := 20) d (by omega) ml (by omega)) ?_
      unfold wpY_splice
      exact yw_noNode_f hi hn6 (br_t rfl (And.intro v (br_f (nf_f (k := 20) d (by omega) ml (by omega)) ⟨rfl, R⟩)))
end
section
section
variable {nd ky wd len jn cp stm fd fc ack N : Nat} {md ch sr hs st : Nat → Nat} {lr : Int32} {L : Nat → cr_E} {pl va rq rs fi sz uc ur uk uv uo aq ar wk : Nat → Int32}
variable {pl' : Nat → Int32} {po : Int32 → Prop} {ps : SX → Prop} {pr : Int32 → SX → Prop} {qs : SY → Prop} {qr : Int32 → SY → Prop}
theorem xw_restart_j {jx : Int32} (hx : jx = cr_jI jn) (hp : ps (cr_xs nd ky wd len jn 0 lr md pl ch sr va rq rs (upd fi 6 0) (upd sz 6 0) uc ur uk uv uo st aq ar)) :
    wpX_restartTransfer ps (nI nd, nI ky, nI wd, 6, nI len, jx, nI cp, lr, cr_nF md, pl, cr_nF ch, cr_nF sr, va, rq, rs, fi, sz, uc, ur, uk, uv, uo, cr_nF st, aq, ar) := by
  subst hx
  exact xw_restart hp
theorem xw_clear_x {r : Nat} {x : Int32} (hx : x = nI r) (hr : r < 7) (hp : ps (cr_xs nd ky wd len jn cp lr md pl ch sr va rq rs (upd fi r 0) (upd sz r 0) uc ur uk uv uo st aq ar)) : wpX_clearRing ps (cr_xs nd ky wd len jn cp lr md pl ch sr va rq rs fi sz uc ur uk uv uo st aq ar) x := by
  subst hx
  exact xw_clear hr hp
theorem yw_join {i : Nat} (hC : (pi_C nd ky wd len)) (hK : (pi_K nd len jn md ch pl)) (hi : i < nd) (hm : md i = 0)
    (h5 : jn < 6 → qr (-5) (cr_ys nd ky wd len ack stm fd lr L md ch hs sr wk)) (h3 : jn = 6 → md (ch (len - 1)) ≠ 10 → qr (-3) (cr_ys nd ky wd len ack stm fd lr L md ch hs sr wk)) (h0 : jn = 6 → md (ch (len - 1)) = 10 → qr 0 (cr_ys nd ky wd len ack 0 (hs (ch (len - 1))) lr L (cr_uN md i 1) ch hs sr wk)) : wpY_join qr (cr_ys nd ky wd len ack stm fd lr L md ch hs sr wk) (nI i) := by
  have hn6 : nd ≤ 6 := hC.2.1
  have hl1 : 1 ≤ len := hC.2.2.2.2.2.2.1
  have v : vp_in (nI i) 6 := vp_in_nI (by omega) (by decide)
  have t6 := kk_lt hK hC (p := len - 1) (by omega)
  have tv : vp_in (nI (ch (len - 1))) 6 := vp_in_nI t6 (by decide)
  unfold wpY_join
  refine yw_noNode_f hi hn6 (br_t rfl (And.intro v (br_t (nf_t (k := 0) hm (by omega)) ?_)))
  refine yw_hj hC hK (fun x => br_f (by decide) (h5 x)) (fun x => br_t rfl (yw_tail hC (And.intro tv ?_)))
  by_cases w : md (ch (len - 1)) = 10
  · have u1 : upd (cr_nF md) (nI i).toNatClampNeg 1 = cr_nF (cr_uN md i 1) := by rw [nI_clamp (by omega)]; exact cr_upd md i 1
    exact br_t (nf_t w (by omega)) (And.intro v (nm_r u1 (And.intro tv (nm_r (nf_at (by omega)) (h0 x w)))))
  · exact br_f (nf_f (k := 10) w (by omega) (kk_mlt hK t6) (by omega)) (h3 x w)
theorem yw_copy (hC : (pi_C nd ky wd len)) (hK : (pi_K nd len jn md ch pl)) (hc : stm ≤ ky + 4)
    (h2 : jn = 6 → qr (-2) (cr_ys nd ky wd len ack stm fd lr L md ch hs sr wk)) (h3 : jn < 6 → md (ch (len - 1)) ≠ 10 → qr (-3) (cr_ys nd ky wd len ack stm fd lr L md ch hs sr wk)) (h4 : jn < 6 → md (ch (len - 1)) = 10 → stm = ky + 4 → qr (-4) (cr_ys nd ky wd len ack stm fd lr L md ch hs sr wk))
    (h0 : jn < 6 → md (ch (len - 1)) = 10 → stm ≠ ky + 4 → qr 0 (cr_ys nd ky wd len ack (stm + 1) fd lr L md ch hs sr wk)) : wpY_copy qr (cr_ys nd ky wd len ack stm fd lr L md ch hs sr wk) := by
  have hky : ky ≤ 8 := hC.2.2.2.1
  have hl1 : 1 ≤ len := hC.2.2.2.2.2.2.1
  have t6 := kk_lt hK hC (p := len - 1) (by omega)
  have tv : vp_in (nI (ch (len - 1))) 6 := vp_in_nI t6 (by decide)
  have e4 : nI ky + 4 = nI (ky + 4) := nI_add ky 4
  unfold wpY_copy
  refine yw_hj hC hK (fun x => br_f (by decide) (yw_tail hC (And.intro tv ?_))) (fun x => br_t rfl (h2 x))
  by_cases w : md (ch (len - 1)) = 10
  · refine br_t (nf_t w (by omega)) ?_
    rw [e4]
    exact pk_eq stm (ky + 4) (fun y => h4 x w y) (fun y => nm_r (nI_1 _) (h0 x w y))
  · exact br_f (nf_f (k := 10) w (by omega) (kk_mlt hK t6) (by omega)) (h3 x w)
theorem yl_pro (hC : (pi_C nd ky wd len)) (hK : (pi_K nd len jn md ch pl)) (hj : jn < 6) (hu : md (ch (len - 1)) = 10) (hK' : (pi_K nd (len + 1) 6 (cr_uN md jn 10) (cr_uN ch len jn) pl')) (hC' : (pi_C nd ky wd (len + 1)))
    (h0 : qr 0 (cr_ys nd ky wd (len + 1) (pi_sa ack (cr_uN md jn 10) (cr_uN ch len jn) (cr_uN sr jn (hs (ch (len - 1))))) stm fd lr L (cr_uN md jn 10) (cr_uN ch len jn) (cr_uN hs jn (hs (ch (len - 1)))) (cr_uN sr jn (hs (ch (len - 1)))) wk)) :
    ∀ d i, i + d = nd → wY_promote_63 qr (nI (ch (len - 1))) (nI nd) (nI ky) (nI wd) (nI len) (nI ack) (nI stm) (nI fd) lr (cr_nF (cr_kd L)) (cr_nF (cr_wh L)) (cr_nu L) (cr_nF (cr_so L)) (cr_nF (cr_ta L)) (cr_am L) (cr_nF md) (cr_nF ch) (cr_nF hs) (cr_nF sr) wk (d + 1) (nI (if jn < i then jn else 0)) (nI i) := by
  have hn6 : nd ≤ 6 := hC.2.1
  have hl1 : 1 ≤ len := hC.2.2.2.2.2.2.1
  have hl' : len + 1 ≤ nd := hC'.2.2.2.2.2.2.2
  have hjd := kk_jnd hK hj
  have t6 := kk_lt hK hC (p := len - 1) (by omega)
  have tv : vp_in (nI (ch (len - 1))) 6 := vp_in_nI t6 (by decide)
  have jv : vp_in (nI jn) 6 := vp_in_nI hj (by decide)
  have tj := gt_j hK t6 (Or.inl hu)
  have cj : (nI jn).toNatClampNeg = jn := nI_clamp (by omega)
  intro d
  induction d with
  | zero =>
    intro i hi
    have : nd = i := by omega
    subst this
    rw [if_pos hjd]
    refine br_t (nI_le (Nat.le_refl nd) (by omega)) (br_t (nI_lt (b := 6) (by omega) (by omega)) ?_)
    have u1 : upd (cr_nF ch) (nI len).toNatClampNeg (nI jn) = cr_nF (cr_uN ch len jn) := by rw [nI_clamp (by omega), cr_upd]
    have u2 : upd (cr_nF md) (nI jn).toNatClampNeg 10 = cr_nF (cr_uN md jn 10) := by rw [cj]; exact cr_upd md jn 10
    have u3 : upd (cr_nF hs) (nI jn).toNatClampNeg (cr_nF hs (nI (ch (len - 1))).toNatClampNeg) = cr_nF (cr_uN hs jn (hs (ch (len - 1)))) := by rw [cj, nf_at (by omega), cr_upd]
    have u4 : upd (cr_nF sr) (nI jn).toNatClampNeg (cr_nF (cr_uN hs jn (hs (ch (len - 1)))) (nI (ch (len - 1))).toNatClampNeg) = cr_nF (cr_uN sr jn (hs (ch (len - 1)))) := by rw [cj, nf_at (by omega), cr_uNn tj, cr_upd]
    refine And.intro (vp_in_nI (by omega) (by decide)) (nm_r u1 (nm_r (nI_1 _) (And.intro jv (nm_r u2 (And.intro tv (And.intro jv (nm_r u3 (And.intro tv (And.intro jv (nm_r u4 ?_))))))))))
    exact yw_settle hC' hK' h0
  | succ d ih =>
    intro i hi
    have I := ih (i + 1) (by omega)
    refine br_f (nI_ge (by omega) (by omega)) (And.intro (vp_in_nI (by omega) (by decide)) ?_)
    by_cases z : md i = 1
    · have e := (kk_jn hK (i := i) (by omega) z).1
      rw [if_pos (by omega), ← e] at I
      exact br_t (nf_t z (by omega)) (nm_r (nI_1 _) I)
    · have e : i ≠ jn := fun y => z (by rw [y]; exact hK.2.1 hj)
      have q : (if jn < i + 1 then jn else 0) = (if jn < i then jn else 0) := by
        by_cases y : jn < i
        · rw [if_pos y, if_pos (by omega)]
        · rw [if_neg y, if_neg (by omega)]
      rw [q] at I
      exact br_f (nf_f (k := 1) z (by omega) (kk_mlt hK (by omega)) (by omega)) (nm_r (nI_1 _) I)
theorem yw_pro (hP : (pi_P nd ky wd len jn cp stm fd fc ack N md ch sr hs st L pl))
    (h2 : jn = 6 → qr (-2) (cr_ys nd ky wd len ack stm fd lr L md ch hs sr wk)) (h3 : jn < 6 → md (ch (len - 1)) ≠ 10 → qr (-3) (cr_ys nd ky wd len ack stm fd lr L md ch hs sr wk)) (h5 : jn < 6 → md (ch (len - 1)) = 10 → (cp < ky + 4 ∨ 0 < fc) → qr (-5) (cr_ys nd ky wd len ack stm fd lr L md ch hs sr wk))
    (h0 : jn < 6 → md (ch (len - 1)) = 10 → cp = ky + 4 → fc = 0 → qr 0 (cr_ys nd ky wd (len + 1) (pi_sa ack (cr_uN md jn 10) (cr_uN ch len jn) (cr_uN sr jn (hs (ch (len - 1))))) stm fd lr L (cr_uN md jn 10) (cr_uN ch len jn) (cr_uN hs jn (hs (ch (len - 1)))) (cr_uN sr jn (hs (ch (len - 1)))) wk)) : wpY_promote qr (cr_ys nd ky wd len ack stm fd lr L md ch hs sr wk) := by
  have hP' := hP
  obtain ⟨hC, hK, hH, hL, hT⟩ := hP'
  have hky : ky ≤ 8 := hC.2.2.2.1
  have hw8 : wd ≤ 8 := hC.2.2.2.2.2.1
  have hl1 : 1 ≤ len := hC.2.2.2.2.2.2.1
  have t6 := kk_lt hK hC (p := len - 1) (by omega)
  have tv : vp_in (nI (ch (len - 1))) 6 := vp_in_nI t6 (by decide)
  have e4 : nI ky + 4 = nI (ky + 4) := nI_add ky 4
  unfold wpY_promote
  refine yw_hj hC hK (fun x => br_f (by decide) (yw_tail hC (And.intro tv ?_))) (fun x => br_t rfl (h2 x))
  by_cases w : md (ch (len - 1)) = 10
  · refine br_t (nf_t w (by omega)) ?_
    obtain ⟨t1, t2, t3⟩ := hT.2.2.2.2.1 x w
    have sc := hT.2.2.2.1 x
    have hcp := hT.2.1
    have ef : cr_nF hs (nI (ch (len - 1))).toNatClampNeg - nI fd = nI fc := by rw [nf_at (by omega), ← t1, pk_sub (by omega), show fd + fc - fd = fc by omega]
    rw [e4]
    refine pk_lt stm (ky + 4) (fun y => h5 x w (Or.inl (by omega))) (fun y => And.intro tv ?_)
    rw [ef]
    refine pk_le fc 0 (fun z => ?_) (fun z => h5 x w (Or.inr z))
    have P2 := pq_promote hP x w (by omega) (by omega)
    have := yl_pro (qr := qr) (lr := lr) (L := L) (wk := wk) (ack := ack) (stm := stm) (fd := fd) hC hK x w P2.2.1 P2.1 (h0 x w (by omega) (by omega)) nd 0 (by omega)
    rw [if_neg (by omega)] at this
    exact ⟨_, this⟩
  · exact br_f (nf_f (k := 10) w (by omega) (kk_mlt hK t6) (by omega)) (h3 x w)
end
theorem i_vc_join {k : Nat} {u : SX} {v : SY} (I : i_Rel k u v) (hk : k + 5 ≤ 2564) (v1 : Int32) : wpX_join (fun r u' => wpY_join (fun r' v' => r' = r ∧ i_Rel (k + 5) u' v') v v1) u v1 := by
  refine zz_el (Z := fun u v => wpX_join (fun r u' => wpY_join (fun r' v' => r' = r ∧ i_Rel (k + 5) u' v') v v1) u v1) ?_ I
  intro nd ky wd len jn cp stm fd fc ack N md ch sr hs st lr L pl va rq rs fi sz uc ur uk uv uo aq ar wk hP hD hA
  have R : i_Rel (k + 5) (cr_xs nd ky wd len jn cp lr md pl ch sr va rq rs fi sz uc ur uk uv uo st aq ar) (cr_ys nd ky wd len ack stm fd lr L md ch hs sr wk) := zz_in hP hD hA
  have hP' := hP
  obtain ⟨hC, hK, hH, hL, hT⟩ := hP'
  have hn6 : nd ≤ 6 := hC.2.1
  have hky : ky ≤ 8 := hC.2.2.2.1
  have hjn := hK.1
  unfold wpX_join
  have bad : v1 < 0 ∨ nI nd ≤ v1 → wpY_join (fun r' v' => r' = -1 ∧ i_Rel (k + 5) (cr_xs nd ky wd len jn cp lr md pl ch sr va rq rs fi sz uc ur uk uv uo st aq ar) v') (cr_ys nd ky wd len ack stm fd lr L md ch hs sr wk) v1 := fun z => by
    unfold wpY_join
    exact yw_noNode_t z (br_f (by decide) ⟨rfl, R⟩)
  rcases pk_ix v1 (n := nd) (by omega) with z | z | ⟨i, hi, e⟩
  · exact xw_isNode_f (Or.inl z) (br_t rfl (bad (Or.inl z)))
  · exact xw_isNode_f (Or.inr z) (br_t rfl (bad (Or.inr z)))
  · subst e
    have i6 : i < 6 := by omega
    have v : vp_in (nI i) 6 := vp_in_nI i6 (by decide)
    have ml := kk_mlt hK i6
    have ci : (nI i).toNatClampNeg = i := nI_clamp (by omega)
    refine xw_isNode_t hi hn6 (br_f (by decide) (And.intro v ?_))
    by_cases m : md i = 0
    · refine br_t (nf_t (k := 0) m (by omega)) ?_
      by_cases j6 : jn = 6
      · refine br_t ((ji_neg hjn).mpr j6) ?_
        refine xw_tailIsUp hC hK (fun w => br_f (by decide) ?_) (fun w => br_t rfl (yw_join hC hK hi m (fun x => by omega) (fun _ _ => ⟨rfl, R⟩) (fun _ x => absurd x w)))
        refine xw_erase i6 (fun va' rq' rs' k1 k2 k3 k4 => ?_)
        have u1 : upd (cr_nF md) (nI i).toNatClampNeg 1 = cr_nF (cr_uN md i 1) := by rw [ci]; exact cr_upd md i 1
        refine And.intro v (nm_r u1 ?_)
        refine xw_restart_j (jn := i) (ji_lt i6).symm ?_
        obtain ⟨z1, z2⟩ := hh_0 hH i6 (by omega)
        have D2 := cd_erase (r := i) (jm := jn) hD i6 hky (Or.inl rfl) (Or.inl (by omega)) k1 k2 k3 k4
        rw [cr_uNid z1, cr_uNid z2] at D2
        have D3 := cd_restart (hs (ch (len - 1))) D2
        rw [j6] at D3
        have D4 := cd_join (r := i) D3
        rw [cr_uNid z1]
        exact yw_join hC hK hi m (fun x => by omega) (fun _ x => absurd w x) (fun _ _ => ⟨rfl, zz_in (pq_join hP hi m j6 w) D4 hA⟩)
      · exact br_f (fun y => j6 ((ji_neg hjn).mp y)) (yw_join hC hK hi m (fun _ => ⟨rfl, R⟩) (fun x => absurd x j6) (fun x => absurd x j6))
    · refine br_f (nf_f (k := 0) m (by omega) ml (by omega)) ?_
      unfold wpY_join
      exact yw_noNode_f hi hn6 (br_t rfl (And.intro v (br_f (nf_f (k := 0) m (by omega) ml (by omega)) ⟨rfl, R⟩)))
theorem i_vc_copy {k : Nat} {u : SX} {v : SY} (I : i_Rel k u v) (hk : k + 5 ≤ 2564) : wpX_copy (fun r u' => wpY_copy (fun r' v' => r' = r ∧ i_Rel (k + 5) u' v') v) u := by
  refine zz_el (Z := fun u v => wpX_copy (fun r u' => wpY_copy (fun r' v' => r' = r ∧ i_Rel (k + 5) u' v') v) u) ?_ I
  intro nd ky wd len jn cp stm fd fc ack N md ch sr hs st lr L pl va rq rs fi sz uc ur uk uv uo aq ar wk hP hD hA
  have R : i_Rel (k + 5) (cr_xs nd ky wd len jn cp lr md pl ch sr va rq rs fi sz uc ur uk uv uo st aq ar) (cr_ys nd ky wd len ack stm fd lr L md ch hs sr wk) := zz_in hP hD hA
  have hP' := hP
  obtain ⟨hC, hK, hH, hL, hT⟩ := hP'
  have hn6 : nd ≤ 6 := hC.2.1
  have hky : ky ≤ 8 := hC.2.2.2.1
  have hl1 : 1 ≤ len := hC.2.2.2.2.2.2.1
  have hl2 : len ≤ nd := hC.2.2.2.2.2.2.2
  have hjn := hK.1
  have hsm := hT.2.2.1
  have hcp := hT.2.1
  unfold wpX_copy
  by_cases j6 : jn < 6
  · have t6 := kk_lt hK hC (p := len - 1) (by omega)
    have tv : vp_in (nI (ch (len - 1))) 6 := vp_in_nI t6 (by decide)
    have e4 : nI ky + 4 = nI (ky + 4) := nI_add ky 4
    have sc := hT.2.2.2.1 j6
    refine br_t ((ji_nn hjn).mpr j6) ?_
    refine xw_tailIsUp hC hK (fun w => br_f (by decide) ?_) (fun w => br_t rfl (yw_copy hC hK hsm (fun x => by omega) (fun _ _ => ⟨rfl, R⟩) (fun _ x => absurd x w) (fun _ x => absurd x w)))
    have tj := gt_j hK t6 (Or.inl w)
    have et := hH.2.2.2.1 w
    obtain ⟨t1, t2, t3⟩ := hT.2.2.2.2.1 j6 w
    have h200 := hh_200 hH t6
    rw [e4]
    refine pk_lt cp (ky + 4) (fun c => ?_) (fun c => yw_copy hC hK hsm (fun x => by omega) (fun _ x => absurd w x) (fun _ _ _ => ⟨rfl, R⟩) (fun _ _ x => by omega))
    have P2 := pq_copy hP j6 w c
    have u1 : upd (cr_nF st) (nI cp).toNatClampNeg (cr_nF sr (nI (ch (len - 1))).toNatClampNeg) = cr_nF (cr_uN st cp (sr (ch (len - 1)))) := by rw [nf_at (by omega), nI_clamp (by omega), cr_upd]
    have cv : vp_in (nI cp) 12 := vp_in_nI (by omega) (by decide)
    refine And.intro (by rw [n_pred hl1]; exact vp_in_nI (by omega) (by decide)) (nm_r (e' := nI (ch (len - 1))) (by rw [n_pred hl1, nf_at (by omega)]) ?_)
    refine pk_le ky cp (fun d => nm_r (pk_sub d) ?_) (fun d => ?_)
    · have q1 : nI (ch (len - 1)) * 4 + nI (cp - ky) = nI (ch (len - 1) * 4 + (cp - ky)) := n_m4 _ _
      have q2 : cr_jI jn * 4 + nI (cp - ky) = nI (jn * 4 + (cp - ky)) := by rw [ji_lt j6, n_m4]
      have v1 : vp_in (nI (ch (len - 1) * 4 + (cp - ky))) 24 := vp_in_nI (by omega) (by decide)
      have v2 : vp_in (nI (jn * 4 + (cp - ky))) 24 := vp_in_nI (by omega) (by decide)
      have c1 : (nI (ch (len - 1) * 4 + (cp - ky))).toNatClampNeg = ch (len - 1) * 4 + (cp - ky) := nI_clamp (by omega)
      have c2 : (nI (jn * 4 + (cp - ky))).toNatClampNeg = jn * 4 + (cp - ky) := nI_clamp (by omega)
      rw [q1, q2, c1, c2]
      refine And.intro v1 (And.intro v2 (nm_e (And.intro v1 (And.intro v2 (nm_e ?_)))))
      unfold wX_copy_142
      refine And.intro tv (And.intro cv (nm_r u1 (nm_r (nI_1 _) ?_)))
      exact yw_copy hC hK hsm (fun x => by omega) (fun _ x => absurd w x) (fun _ _ x => by omega) (fun _ _ _ => ⟨rfl, zz_in P2 (cd_copyC hD t6 tj (c := cp - ky) (by omega) (by omega) hky (by omega)) hA⟩)
    · have q1 : nI (ch (len - 1)) * 8 + nI cp = nI (ch (len - 1) * 8 + cp) := n_m8 _ _
      have q2 : cr_jI jn * 8 + nI cp = nI (jn * 8 + cp) := by rw [ji_lt j6, n_m8]
      have v1 : vp_in (nI (ch (len - 1) * 8 + cp)) 48 := vp_in_nI (by omega) (by decide)
      have v2 : vp_in (nI (jn * 8 + cp)) 48 := vp_in_nI (by omega) (by decide)
      have c1 : (nI (ch (len - 1) * 8 + cp)).toNatClampNeg = ch (len - 1) * 8 + cp := nI_clamp (by omega)
      have c2 : (nI (jn * 8 + cp)).toNatClampNeg = jn * 8 + cp := nI_clamp (by omega)
      rw [q1, q2, c1, c2]
      refine And.intro v1 (And.intro v2 (nm_e ?_))
      unfold wX_copy_142
      refine And.intro tv (And.intro cv (nm_r u1 (nm_r (nI_1 _) ?_)))
      exact yw_copy hC hK hsm (fun x => by omega) (fun _ x => absurd w x) (fun _ _ x => by omega) (fun _ _ _ => ⟨rfl, zz_in P2 (cd_copyK hD t6 tj d hky (by omega)) hA⟩)
  · exact br_f (fun y => j6 ((ji_nn hjn).mp y)) (yw_copy hC hK hsm (fun _ => ⟨rfl, R⟩) (fun x => absurd x j6) (fun x => absurd x j6) (fun x => absurd x j6))
theorem i_vc_promote {k : Nat} {u : SX} {v : SY} (I : i_Rel k u v) (hk : k + 5 ≤ 2564) : wpX_promote (fun r u' => wpY_promote (fun r' v' => r' = r ∧ i_Rel (k + 5) u' v') v) u := by
  refine zz_el (Z := fun u v => wpX_promote (fun r u' => wpY_promote (fun r' v' => r' = r ∧ i_Rel (k + 5) u' v') v) u) ?_ I
  intro nd ky wd len jn cp stm fd fc ack N md ch sr hs st lr L pl va rq rs fi sz uc ur uk uv uo aq ar wk hP hD hA
  have R : i_Rel (k + 5) (cr_xs nd ky wd len jn cp lr md pl ch sr va rq rs fi sz uc ur uk uv uo st aq ar) (cr_ys nd ky wd len ack stm fd lr L md ch hs sr wk) := zz_in hP hD hA
  have hP' := hP
  obtain ⟨hC, hK, hH, hL, hT⟩ := hP'
  have hn6 : nd ≤ 6 := hC.2.1
  have hky : ky ≤ 8 := hC.2.2.2.1
  have hl1 : 1 ≤ len := hC.2.2.2.2.2.2.1
  have hl2 : len ≤ nd := hC.2.2.2.2.2.2.2
  have hjn := hK.1
  have hcp := hT.2.1
  unfold wpX_promote
  by_cases j6 : jn < 6
  · have t6 := kk_lt hK hC (p := len - 1) (by omega)
    have tv : vp_in (nI (ch (len - 1))) 6 := vp_in_nI t6 (by decide)
    have e4 : nI ky + 4 = nI (ky + 4) := nI_add ky 4
    have ej : cr_jI jn = nI jn := ji_lt j6
    have cj : (cr_jI jn).toNatClampNeg = jn := by rw [ej]; exact nI_clamp (by omega)
    have jv : vp_in (cr_jI jn) 6 := by rw [ej]; exact vp_in_nI j6 (by decide)
    have room := pq_room hC hK j6
    refine br_t ((ji_nn hjn).mpr j6) ?_
    refine xw_tailIsUp hC hK (fun w => br_f (by decide) ?_) (fun w => br_t rfl (yw_pro hP (fun x => by omega) (fun _ _ => ⟨rfl, R⟩) (fun _ x => absurd x w) (fun _ x => absurd x w)))
    have et := hH.2.2.2.1 w
    have e6 : sz 6 = nI fc := hD.2.2.2.1
    have f8 := hD.2.2.1
    obtain ⟨t1, t2, t3⟩ := hT.2.2.2.2.1 j6 w
    rw [e4, e6]
    refine pk_lt cp (ky + 4) (fun c => yw_pro hP (fun x => by omega) (fun _ x => absurd w x) (fun _ _ _ => ⟨rfl, R⟩) (fun _ _ x => by omega)) (fun c => ?_)
    refine pk_le fc 0 (fun d => ?_) (fun d => yw_pro hP (fun x => by omega) (fun _ x => absurd w x) (fun _ _ _ => ⟨rfl, R⟩) (fun _ _ _ x => by omega))
    have e1 : cr_nF ch (nI len - 1).toNatClampNeg = nI (ch (len - 1)) := by rw [n_pred hl1, nf_at (by omega)]
    have u1 : upd (cr_nF sr) (cr_jI jn).toNatClampNeg (cr_nF sr (nI (ch (len - 1))).toNatClampNeg) = cr_nF (cr_uN sr jn (hs (ch (len - 1)))) := by rw [cj, nf_at (by omega), et, cr_upd]
    have u2 : upd (cr_nF md) (cr_jI jn).toNatClampNeg 10 = cr_nF (cr_uN md jn 10) := by rw [cj]; exact cr_upd md jn 10
    have u3 : upd pl (cr_jI jn).toNatClampNeg (nI len) = upd pl jn (nI len) := by rw [cj]
    have u4 : upd (cr_nF ch) (nI len).toNatClampNeg (cr_jI jn) = cr_nF (cr_uN ch len jn) := by rw [nI_clamp (by omega), ej, cr_upd]
    rw [e1]
    refine And.intro (by rw [n_pred hl1]; exact vp_in_nI (by omega) (by decide)) (And.intro tv (And.intro jv (nm_r u1 ?_)))
    refine xw_clear_x ej (by omega) ?_
    refine And.intro jv (nm_r u2 (And.intro jv (nm_r u3 (And.intro (vp_in_nI (by omega) (by decide)) (nm_r u4 (nm_r (nI_1 _) ?_))))))
    show wpX_restartTransfer _ (cr_xs nd ky wd (len + 1) 6 cp lr (cr_uN md jn 10) (upd pl jn (nI len)) (cr_uN ch len jn) (cr_uN sr jn (hs (ch (len - 1)))) va rq rs (upd fi jn 0) (upd sz jn 0) uc ur uk uv uo st aq ar)
    refine xw_restart ?_
    have P2 := pq_promote hP j6 w (by omega) (by omega)
    have D2 := cd_promote (n := hs (ch (len - 1))) hD j6 (by omega) (by omega) t3
    show wpX_publish _ (cr_xs nd ky wd (len + 1) 6 0 lr (cr_uN md jn 10) (upd pl jn (nI len)) (cr_uN ch len jn) (cr_uN sr jn (hs (ch (len - 1)))) va rq rs (upd (upd fi jn 0) 6 0) (upd (upd sz jn 0) 6 0) uc ur uk uv uo st aq ar)
    refine xw_publish P2.1 P2.2.1 D2 hA (fun aq' ar' A2 => ?_)
    exact yw_pro hP (fun x => by omega) (fun _ x => absurd w x) (fun _ _ x => by omega) (fun _ _ _ _ => ⟨rfl, zz_in P2 D2 A2⟩)
  · exact br_f (fun y => j6 ((ji_nn hjn).mp y)) (yw_pro hP (fun _ => ⟨rfl, R⟩) (fun x => absurd x j6) (fun x => absurd x j6) (fun x => absurd x j6))
end
section
def in_cl (v : Int32) (lo hi : Nat) : Nat := if nI lo ≤ v then (if v ≤ nI hi then v.toNatClampNeg else hi) else lo
theorem in_cl_e {v : Int32} {lo hi : Nat} (hlo : lo < 2 ^ 31) (a : nI lo ≤ v) : ∃ j, j < 2 ^ 31 ∧ v = nI j := nI_of (Int32.not_lt.mpr (Int32.le_trans (nI_pos' hlo) a))
theorem in_cl_b {v : Int32} {lo hi : Nat} (h : lo ≤ hi) (hh : hi < 2 ^ 31) : lo ≤ in_cl v lo hi ∧ in_cl v lo hi ≤ hi := by
  unfold in_cl
  split
  · rename_i a
    split
    · rename_i b
      obtain ⟨j, hj, rfl⟩ := in_cl_e (hi := hi) (by omega) a
      rw [nI_clamp hj]
      exact ⟨(nI_leI (by omega) hj).mp a, (nI_leI hj hh).mp b⟩
    · omega
  · omega
theorem in_clX {po : Int32 → Prop} {u : SX} {v : Int32} {lo hi : Nat} (hlo : lo < 2 ^ 31) (hp : po (nI (in_cl v lo hi))) : wpX_clamp po u v (nI lo) (nI hi) := by
  obtain ⟨x1, x2, x3, x4, x5, x6, x7, x8, x9, x10, x11, x12, x13, x14, x15, x16, x17, x18, x19, x20, x21, x22, x23, x24, x25⟩ := u
  show (nI lo ≤ v → (v ≤ nI hi → po v) ∧ (¬ v ≤ nI hi → po (nI hi))) ∧ (¬ nI lo ≤ v → po (nI lo))
  unfold in_cl at hp
  by_cases a : nI lo ≤ v
  · rw [if_pos a] at hp
    refine br_t a ?_
    by_cases b : v ≤ nI hi
    · rw [if_pos b] at hp
      obtain ⟨j, hj, rfl⟩ := in_cl_e (hi := hi) hlo a
      rw [nI_clamp hj] at hp
      exact br_t b hp
    · rw [if_neg b] at hp
      exact br_f b hp
  · rw [if_neg a] at hp
    exact br_f a hp
theorem in_clY {po : Int32 → Prop} {u : SY} {v : Int32} {lo hi : Nat} (hlo : lo < 2 ^ 31) (hp : po (nI (in_cl v lo hi))) : wpY_clamp po u v (nI lo) (nI hi) := by
  obtain ⟨x1, x2, x3, x4, x5, x6, x7, x8, x9, x10, x11, x12, x13, x14, x15, x16, x17, x18, x19⟩ := u
  show (nI lo ≤ v → (v ≤ nI hi → po v) ∧ (¬ v ≤ nI hi → po (nI hi))) ∧ (¬ nI lo ≤ v → po (nI lo))
  unfold in_cl at hp
  by_cases a : nI lo ≤ v
  · rw [if_pos a] at hp
    refine br_t a ?_
    by_cases b : v ≤ nI hi
    · rw [if_pos b] at hp
      obtain ⟨j, hj, rfl⟩ := in_cl_e (hi := hi) hlo a
      rw [nI_clamp hj] at hp
      exact br_t b hp
    · rw [if_neg b] at hp
      exact br_f b hp
  · rw [if_neg a] at hp
    exact br_f a hp
def in_md (len k : Nat) : Nat → Nat := fun j => if j < k ∧ j < len then 10 else 0
def in_ch (len k : Nat) : Nat → Nat := fun j => if j < k ∧ j < len then j else 0
def in_pl (len k : Nat) : Nat → Int32 := fun j => if j < k then (if j < len then nI j else -1) else 0
theorem in_md1 {len k : Nat} (h : k < len) : cr_uN (in_md len k) k 10 = in_md len (k + 1) := by
  funext j
  unfold cr_uN in_md
  by_cases z : j = k
  · rw [if_pos z, if_pos (by omega)]
  · rw [if_neg z]
    by_cases y : j < k ∧ j < len
    · rw [if_pos y, if_pos (by omega)]
    · rw [if_neg y, if_neg (by omega)]
theorem in_md0 {len k : Nat} (h : ¬ k < len) : cr_uN (in_md len k) k 0 = in_md len (k + 1) := by
  funext j
  unfold cr_uN in_md
  by_cases z : j = k
  · rw [if_pos z, if_neg (by omega)]
  · rw [if_neg z]
    by_cases y : j < k ∧ j < len
    · rw [if_pos y, if_pos (by omega)]
    · rw [if_neg y, if_neg (by omega)]
theorem in_ch1 {len k : Nat} (h : k < len) : cr_uN (in_ch len k) k k = in_ch len (k + 1) := by
  funext j
  unfold cr_uN in_ch
  by_cases z : j = k
  · rw [if_pos z, if_pos (by omega), z]
  · rw [if_neg z]
    by_cases y : j < k ∧ j < len
    · rw [if_pos y, if_pos (by omega)]
    · rw [if_neg y, if_neg (by omega)]
theorem in_ch0 {len k : Nat} (h : ¬ k < len) : in_ch len k = in_ch len (k + 1) := by
  funext j
  unfold in_ch
  by_cases y : j < k ∧ j < len
  · rw [if_pos y, if_pos (by omega)]
  · rw [if_neg y, if_neg (by omega)]
theorem in_pl1 {len k : Nat} (h : k < len) : upd (in_pl len k) k (nI k) = in_pl len (k + 1) := by
  funext j
  by_cases z : j = k
  · rw [z, pk_us]
    unfold in_pl
    rw [if_pos (by omega), if_pos h]
  · rw [pk_un z]
    unfold in_pl
    by_cases y : j < k
    · rw [if_pos y, if_pos (c := j < k + 1) (by omega)]
    · rw [if_neg y, if_neg (c := j < k + 1) (by omega)]
theorem in_pl0 {len k : Nat} (h : ¬ k < len) : upd (in_pl len k) k (-1) = in_pl len (k + 1) := by
  funext j
  by_cases z : j = k
  · rw [z, pk_us]
    unfold in_pl
    rw [if_pos (by omega), if_neg h]
  · rw [pk_un z]
    unfold in_pl
    by_cases y : j < k
    · rw [if_pos y, if_pos (c := j < k + 1) (by omega)]
    · rw [if_neg y, if_neg (c := j < k + 1) (by omega)]
theorem in_X {ps : SX → Prop} {len : Nat} {x1 x2 x3 x4 x6 x7 x8 : Int32} {b1 b2 b3 b4 b5 b6 b7 b8 b9 b10 b11 b12 b13 b14 : Nat → Int32} (hl : len ≤ 6)
    (hp : ps (x1, x2, x3, x4, nI len, x6, x7, x8, cr_nF (in_md len 6), in_pl len 6, cr_nF (in_ch len 6), b1, b2, b3, b4, b5, b6, b7, b8, b9, b10, b11, b12, b13, b14)) :
    ∀ d k, k + d = 6 → wX_init_203 ps x1 x2 x3 x4 (nI len) x6 x7 x8 (d + 1) (nI k) (cr_nF (in_md len k)) (in_pl len k) (cr_nF (in_ch len k)) b1 b2 b3 b4 b5 b6 b7 b8 b9 b10 b11 b12 b13 b14 := by
  intro d
  induction d with
  | zero =>
    intro k hk
    have : k = 6 := by omega
    subst this
    exact br_t (nI_le (a := 6) (by omega) (by omega)) hp
  | succ d ih =>
    intro k hk
    have I := ih (k + 1) (by omega)
    have v : vp_in (nI k) 6 := vp_in_nI (by omega) (by decide)
    have c : (nI k).toNatClampNeg = k := nI_clamp (by omega)
    refine br_f (nI_ge (b := 6) (by omega) (by omega)) ?_
    by_cases z : k < len
    · have u1 : upd (cr_nF (in_md len k)) (nI k).toNatClampNeg 10 = cr_nF (in_md len (k + 1)) := by rw [c, ← in_md1 z]; exact cr_upd _ k 10
      have u2 : upd (in_pl len k) (nI k).toNatClampNeg (nI k) = in_pl len (k + 1) := by rw [c, in_pl1 z]
      have u3 : upd (cr_nF (in_ch len k)) (nI k).toNatClampNeg (nI k) = cr_nF (in_ch len (k + 1)) := by rw [c, ← in_ch1 z]; exact cr_upd _ k k
      exact br_f (nI_ge z (by omega)) (And.intro v (nm_r u1 (And.intro v (nm_r u2 (And.intro v (nm_r u3 (nm_r (nI_1 _) I)))))))
    · have u1 : upd (cr_nF (in_md len k)) (nI k).toNatClampNeg 0 = cr_nF (in_md len (k + 1)) := by rw [c, ← in_md0 z]; exact cr_upd _ k 0
      have u2 : upd (in_pl len k) (nI k).toNatClampNeg (-1) = in_pl len (k + 1) := by rw [c, in_pl0 z]
      rw [← in_ch0 z] at I
      exact br_t (nI_le (by omega) (by omega)) (And.intro v (nm_r u1 (And.intro v (nm_r u2 (nm_r (nI_1 _) I)))))
theorem in_Y {qs : SY → Prop} {len : Nat} {x1 x2 x3 x5 x6 x7 x8 : Int32} {b1 b2 b3 b4 b5 b6 b9 b10 b11 : Nat → Int32} (hl : len ≤ 6)
    (hp : qs (x1, x2, x3, nI len, x5, x6, x7, x8, b1, b2, b3, b4, b5, b6, cr_nF (in_md len len), cr_nF (in_ch len len), b9, b10, b11)) :
    ∀ d k, k + d = len → wY_init_152 qs x1 x2 x3 (nI len) x5 x6 x7 x8 (d + 1) (nI k) b1 b2 b3 b4 b5 b6 (cr_nF (in_md len k)) (cr_nF (in_ch len k)) b9 b10 b11 := by
  intro d
  induction d with
  | zero =>
    intro k hk
    have : k = len := by omega
    subst this
    exact br_t (nI_le (Nat.le_refl _) (by omega)) hp
  | succ d ih =>
    intro k hk
    have I := ih (k + 1) (by omega)
    have v : vp_in (nI k) 6 := vp_in_nI (by omega) (by decide)
    have c : (nI k).toNatClampNeg = k := nI_clamp (by omega)
    have z : k < len := by omega
    have u1 : upd (cr_nF (in_md len k)) (nI k).toNatClampNeg 10 = cr_nF (in_md len (k + 1)) := by rw [c, ← in_md1 z]; exact cr_upd _ k 10
    have u3 : upd (cr_nF (in_ch len k)) (nI k).toNatClampNeg (nI k) = cr_nF (in_ch len (k + 1)) := by rw [c, ← in_ch1 z]; exact cr_upd _ k k
    exact br_f (nI_ge z (by omega)) (And.intro v (nm_r u3 (And.intro v (nm_r u1 (nm_r (nI_1 _) I)))))
theorem in_mdE {len : Nat} (h : len ≤ 6) : in_md len len = in_md len 6 := by
  funext j
  unfold in_md
  by_cases y : j < len ∧ j < len
  · rw [if_pos y, if_pos (by omega)]
  · rw [if_neg y, if_neg (by omega)]
theorem in_chE {len : Nat} (h : len ≤ 6) : in_ch len len = in_ch len 6 := by
  funext j
  unfold in_ch
  by_cases y : j < len ∧ j < len
  · rw [if_pos y, if_pos (by omega)]
  · rw [if_neg y, if_neg (by omega)]
def in_L : Nat → cr_E := fun _ => (0, 0, 0, 0, 0, 0)
def in_0 : Nat → Nat := fun _ => 0
def in_z : Nat → Int32 := fun _ => 0
theorem in_P {nd ky wd len : Nat} (hC : (pi_C nd ky wd len)) : (pi_P nd ky wd len 6 0 0 0 0 0 0 (in_md len 6) (in_ch len 6) in_0 in_0 in_0 in_L (in_pl len 6)) := by
  have hC' := hC
  obtain ⟨c1, c2, c3, c4, c5, c6, c7, c8⟩ := hC
  have m1 : ∀ j, j < len → in_md len 6 j = 10 := fun j hj => if_pos (by omega)
  have m0 : ∀ j, ¬ j < len → in_md len 6 j = 0 := fun j hj => if_neg (by omega)
  have h1 : ∀ j, j < len → in_ch len 6 j = j := fun j hj => if_pos (by omega)
  have p1 : ∀ j, j < len → in_pl len 6 j = nI j := fun j hj => by
    unfold in_pl
    rw [if_pos (by omega), if_pos hj]
  have p0 : ∀ j, j < 6 → ¬ j < len → in_pl len 6 j = -1 := fun j hj hn => by
    unfold in_pl
    rw [if_pos hj, if_neg hn]
  refine ⟨hC', ⟨Nat.le_refl 6, fun z => by omega, fun p hp => ?_, fun i hi => ?_⟩, ⟨by omega, fun i hi => ⟨Nat.le_refl 0, Nat.le_refl 0, Nat.zero_le _, fun _ => rfl⟩, fun p q _ _ _ _ => ⟨Nat.le_refl 0, Nat.le_refl 0⟩, fun _ => rfl, fun _ _ _ => Nat.le_refl 0, fun _ => rfl, 0, by omega, m1 0 (by omega)⟩, fun i hi => absurd hi (Nat.not_lt_zero i), ⟨by omega, by omega, by omega, fun z => by omega, fun z => by omega, fun _ => ⟨rfl, rfl⟩⟩⟩
  · rw [h1 p hp, m1 p hp, p1 p hp]
    exact ⟨by omega, Or.inl rfl, rfl⟩
  · by_cases z : i < len
    · exact Or.inr (Or.inr ⟨i, z, h1 i z⟩)
    · exact Or.inl ⟨m0 i z, p0 i hi z⟩
theorem in_G {r : Nat} : cr_G in_L in_z in_z in_z in_z in_z in_z in_z r 0 0 :=
  ⟨by omega, rfl, 0, by omega, rfl, fun i hi => absurd hi (Nat.not_lt_zero i)⟩
theorem in_D {ky : Nat} : (cr_D in_L ky 6 0 0 0 in_0 in_0 in_0 in_z in_z in_z in_z in_z in_z in_z in_z in_z in_z) :=
  ⟨fun i _ _ => ⟨Nat.le_refl 0, ⟨fun _ _ => rfl, fun _ _ => ⟨rfl, rfl⟩⟩, in_G⟩, cj_zero, in_G⟩
theorem in_A : (cr_AK in_L 0 in_z in_z) := fun _ _ => ⟨rfl, rfl⟩
theorem i_vc0 (k0 : Int32) (k1 : Int32) (k2 : Int32) (k3 : Int32) : wpX_init (fun u => wpY_init (fun v => i_Rel 4 u v) k0 k1 k2 k3) k0 k1 k2 k3 := by
  have n1 := in_cl_b (v := k0) (lo := 2) (hi := 6) (by omega) (by omega)
  have n2 := in_cl_b (v := k2) (lo := 2) (hi := 8) (by omega) (by omega)
  have n3 := in_cl_b (v := k3) (lo := 1) (hi := 8) (by omega) (by omega)
  have n4 := in_cl_b (v := k1) (lo := 1) (hi := in_cl k0 2 6) (by omega) (by omega)
  have hC : pi_C (in_cl k0 2 6) (in_cl k2 2 8) (in_cl k3 1 8) (in_cl k1 1 (in_cl k0 2 6)) := ⟨n1.1, n1.2, n2.1, n2.2, n3.1, n3.2, n4.1, n4.2⟩
  generalize e1 : in_cl k0 2 6 = nd at *
  generalize e2 : in_cl k2 2 8 = ky at *
  generalize e3 : in_cl k3 1 8 = wd at *
  generalize e4 : in_cl k1 1 nd = len at *
  have hl : len ≤ 6 := by omega
  have zm : cr_nF (in_md len 0) = fun _ => 0 := by
    funext j
    unfold cr_nF in_md
    rw [if_neg (by omega)]
    rfl
  have zc : cr_nF (in_ch len 0) = fun _ => 0 := by
    funext j
    unfold cr_nF in_ch
    rw [if_neg (by omega)]
    rfl
  have zp : in_pl len 0 = fun _ => 0 := by
    funext j
    unfold in_pl
    rw [if_neg (by omega)]
  have fin : i_Rel 4 (nI nd, nI ky, nI wd, 6, nI len, -1, 0, 0, cr_nF (in_md len 6), in_pl len 6, cr_nF (in_ch len 6), (fun _ => 0), (fun _ => 0), (fun _ => 0), (fun _ => 0), (fun _ => 0), (fun _ => 0), (fun _ => 0), (fun _ => 0), (fun _ => 0), (fun _ => 0), (fun _ => 0), (fun _ => 0), (fun _ => 0), (fun _ => 0))
      (nI nd, nI ky, nI wd, nI len, 0, 0, 0, 0, (fun _ => 0), (fun _ => 0), (fun _ => 0), (fun _ => 0), (fun _ => 0), (fun _ => 0), cr_nF (in_md len len), cr_nF (in_ch len len), (fun _ => 0), (fun _ => 0), (fun _ => 0)) := by
    rw [in_mdE hl, in_chE hl]
    exact zz_in (lr := 0) (wk := in_z) (in_P hC) in_D in_A
  have Y : wpY_init (fun v => i_Rel 4 (nI nd, nI ky, nI wd, 6, nI len, -1, 0, 0, cr_nF (in_md len 6), in_pl len 6, cr_nF (in_ch len 6), (fun _ => 0), (fun _ => 0), (fun _ => 0), (fun _ => 0), (fun _ => 0), (fun _ => 0), (fun _ => 0), (fun _ => 0), (fun _ => 0), (fun _ => 0), (fun _ => 0), (fun _ => 0), (fun _ => 0), (fun _ => 0)) v) k0 k1 k2 k3 := by
    unfold wpY_init
    refine in_clY (lo := 2) (hi := 6) (by omega) ?_
    rw [e1]
    refine in_clY (lo := 1) (hi := nd) (by omega) ?_
    rw [e4]
    refine in_clY (lo := 2) (hi := 8) (by omega) ?_
    rw [e2]
    refine in_clY (lo := 1) (hi := 8) (by omega) ?_
    rw [e3]
    have I := in_Y hl fin len 0 (by omega)
    rw [zm, zc] at I
    exact ⟨_, I⟩
  unfold wpX_init
  refine in_clX (lo := 2) (hi := 6) (by omega) ?_
  rw [e1]
  refine in_clX (lo := 2) (hi := 8) (by omega) ?_
  rw [e2]
  refine in_clX (lo := 1) (hi := 8) (by omega) ?_
  rw [e3]
  refine in_clX (lo := 1) (hi := nd) (by omega) ?_
  rw [e4]
  have I := in_X (ps := fun u => wpY_init (fun v => i_Rel 4 u v) k0 k1 k2 k3) hl Y 6 0 rfl
  rw [zm, zc, zp] at I
  exact ⟨_, I⟩
end
