section
/-! rows of kit/rows (pk_, s_l, nx_: starting texts), then own rows on lifted arrays and bits -/
theorem pk_us {f : Nat → Int32} {k : Nat} {x : Int32} : upd f k x k = x := if_pos rfl
theorem pk_un {f : Nat → Int32} {k j : Nat} {x : Int32} (h : j ≠ k) : upd f k x j = f j := if_neg h
theorem pk_sub {a b : Nat} (h : b ≤ a) : nI a - nI b = nI (a - b) := by
  obtain ⟨c, rfl⟩ : ∃ c, a = c + b := ⟨a - b, by omega⟩
  rw [← nI_add, Int32.add_sub_cancel, Nat.add_sub_cancel]
theorem pk_mul (a b : Nat) : nI a * nI b = nI (a * b) := (Int32.ofNat_mul a b).symm
theorem pk_div {a d : Nat} (ha : a < 2 ^ 31) (h0 : 0 < d) (hd : d < 2 ^ 31) : nI a / nI d = nI (a / d) := by
  apply Int32.toInt_inj.mp
  rw [lg_idiv_nonneg (by rw [nI_toInt ha]; omega) (by rw [nI_toInt hd]; omega), nI_toInt ha, nI_toInt hd, nI_toInt (Nat.lt_of_le_of_lt (Nat.div_le_self a d) ha)]
  first | rfl | exact (Int.natCast_ediv _ _).symm
theorem pk_rem {a d : Nat} (ha : a < 2 ^ 31) (h0 : 0 < d) (hd : d < 2 ^ 31) : nI a - nI a / nI d * nI d = nI (a % d) := by
  rw [pk_div ha h0 hd, pk_mul, pk_sub (Nat.div_mul_le_self a d)]
  exact congrArg nI (by have := Nat.div_add_mod' a d; omega)
theorem pk_le {x y : Int32} {A B : Prop} (a b : Nat) (f : a ≤ b → A) (g : b < a → B) (hx : x = nI a := by rfl) (hy : y = nI b := by rfl) (ha : a < 2 ^ 31 := by omega) (hb : b < 2 ^ 31 := by omega) : (x ≤ y → A) ∧ (¬ x ≤ y → B) := by
  subst hx hy
  rw [nI_leI ha hb]
  exact ⟨f, fun z => g (by omega)⟩
theorem pk_lt {x y : Int32} {A B : Prop} (a b : Nat) (f : a < b → A) (g : b ≤ a → B) (hx : x = nI a := by rfl) (hy : y = nI b := by rfl) (ha : a < 2 ^ 31 := by omega) (hb : b < 2 ^ 31 := by omega) : (x < y → A) ∧ (¬ x < y → B) := by
  subst hx hy
  rw [nI_ltI ha hb]
  exact ⟨f, fun z => g (by omega)⟩
theorem pk_eq {x y : Int32} {A B : Prop} (a b : Nat) (f : a = b → A) (g : a ≠ b → B) (hx : x = nI a := by rfl) (hy : y = nI b := by rfl) (ha : a < 2 ^ 31 := by omega) (hb : b < 2 ^ 31 := by omega) : (x = y → A) ∧ (¬ x = y → B) := by
  subst hx hy
  rw [nI_eq ha hb]
  exact ⟨f, g⟩
theorem pk_in {x : Int32} (n N : Nat) (h : n < N) (hx : x = nI n := by rfl) (hN : N < 2 ^ 31 := by omega) : vp_in x N := by
  subst hx
  exact vp_in_nI h hN
theorem pk_cl {x : Int32} (n : Nat) (hx : x = nI n := by rfl) (h : n < 2 ^ 31 := by omega) : x.toNatClampNeg = n := by
  subst hx
  exact nI_clamp h
theorem pk_tn {n : Nat} (h : n < 2 ^ 32) : (nI n).toBitVec.toNat = n := Nat.mod_eq_of_lt h
theorem pk_shl (a s : Int32) (k : Nat) (hs : (s.toBitVec.smod 32).toNat = k) : (a <<< s).toBitVec.toNat = a.toBitVec.toNat * 2 ^ k % 2 ^ 32 := by
  show (a.toBitVec <<< (s.toBitVec.smod 32).toNat).toNat = _
  rw [hs, BitVec.toNat_shiftLeft, Nat.shiftLeft_eq]
theorem pk_shlN {n : Nat} (s : Int32) (k : Nat) (hs : (s.toBitVec.smod 32).toNat = k) (h : n * 2 ^ k < 2 ^ 32) : nI n <<< s = nI (n * 2 ^ k) := by
  apply Int32.toBitVec_inj.mp
  apply BitVec.eq_of_toNat_eq
  have hn : n < 2 ^ 32 := Nat.lt_of_le_of_lt (Nat.le_mul_of_pos_right n (Nat.two_pow_pos k)) h
  rw [pk_shl _ _ k hs, pk_tn hn, pk_tn h, Nat.mod_eq_of_lt h]
theorem pk_shr (a s : Int32) (k : Nat) (hs : (s.toBitVec.smod 32).toNat = k) : (a >>> s).toInt = a.toInt >>> k := by
  show (a.toBitVec.sshiftRight (s.toBitVec.smod 32).toNat).toInt = _
  rw [hs, BitVec.toInt_sshiftRight]
  rfl
theorem pk_shrN {n : Nat} (h : n < 2 ^ 31) (s : Int32) (k : Nat) (hs : (s.toBitVec.smod 32).toNat = k) : nI n >>> s = nI (n / 2 ^ k) := by
  apply Int32.toInt_inj.mp
  have h2 : n / 2 ^ k ≤ n := Nat.div_le_self _ _
  rw [pk_shr _ _ k hs, nI_toInt h, nI_toInt (by omega), Int.shiftRight_eq_div_pow]
  rfl
theorem s_l : ∀ n, n < 32 → ((nI n &&& 31).toBitVec.smod 32).toNat = n := by decide +kernel
theorem nx_and (a b : Nat) : nI a &&& nI b = nI (a &&& b) := by
  apply Int32.toBitVec_inj.1
  show BitVec.ofNat 32 a &&& BitVec.ofNat 32 b = BitVec.ofNat 32 (a &&& b)
  apply BitVec.eq_of_getLsbD_eq
  intro i hi
  simp [hi]
theorem nx_xor (a b : Nat) : nI a ^^^ nI b = nI (a ^^^ b) := by
  apply Int32.toBitVec_inj.1
  show BitVec.ofNat 32 a ^^^ BitVec.ofNat 32 b = BitVec.ofNat 32 (a ^^^ b)
  apply BitVec.eq_of_getLsbD_eq
  intro i hi
  simp [hi]
/-- an array of naturals, as ints -/
def ub_l (f : Nat → Nat) (j : Nat) : Int32 := nI (f j)
/-- a store into an array of naturals -/
def ub_u (f : Nat → Nat) (k x : Nat) : Nat → Nat := fun j => if j = k then x else f j
theorem ub_us {f : Nat → Nat} {k x : Nat} : ub_u f k x k = x := if_pos rfl
theorem ub_un {f : Nat → Nat} {k j x : Nat} (h : j ≠ k) : ub_u f k x j = f j := if_neg h
theorem ub_lu (f : Nat → Nat) (k x : Nat) : upd (ub_l f) k (nI x) = ub_l (ub_u f k x) := by
  funext j
  unfold upd ub_l ub_u
  split <;> rfl
theorem ub_rd (f : Nat → Nat) {k : Nat} (h : k < 2 ^ 31) : ub_l f (nI k).toNatClampNeg = nI (f k) := by
  rw [nI_clamp h]; rfl
theorem ub_wr (f : Nat → Nat) {k : Nat} (x : Nat) (h : k < 2 ^ 31) : upd (ub_l f) (nI k).toNatClampNeg (nI x) = ub_l (ub_u f k x) := by
  rw [nI_clamp h, ub_lu]
theorem ub_z : (fun _ => 0 : Nat → Int32) = ub_l (fun _ => 0) := rfl
theorem ub_or (a b : Nat) : nI a ||| nI b = nI (a ||| b) := by
  apply Int32.toBitVec_inj.1
  show BitVec.ofNat 32 a ||| BitVec.ofNat 32 b = BitVec.ofNat 32 (a ||| b)
  apply BitVec.eq_of_getLsbD_eq
  intro i hi
  simp [hi]
/-- one bit of a plan -/
theorem ub_bit {p v : Nat} (hp : p < 2 ^ 31) (hv : v < 32) : (nI p >>> (nI v &&& 31)) &&& 1 = nI (p.testBit v).toNat := by
  rw [pk_shrN hp _ v (s_l v hv)]
  show nI _ &&& nI 1 = _
  rw [nx_and, Nat.and_one_is_mod, Nat.toNat_testBit]
theorem ub_sh {v : Nat} (hv : v < 32) : (1 : Int32) <<< (nI v &&& 31) = nI (2 ^ v) := by
  show nI 1 <<< (nI v &&& 31) = nI (2 ^ v)
  rw [pk_shlN _ v (s_l v hv), Nat.one_mul]
  rw [Nat.one_mul]
  exact Nat.pow_lt_pow_right (by decide) hv
theorem ub_m1 {p : Nat} (h : p < 2 ^ 31) : ¬ nI p = -1 := by
  intro e
  have h1 := nI_toInt h
  rw [e] at h1
  have h2 : (-1 : Int32).toInt = -1 := by decide
  omega
theorem ub_neg1 : (-1 : Int32) < 0 := by decide
theorem ub_neg2 : (-2 : Int32) < 0 := by decide
theorem ub_neg3 : (-3 : Int32) < 0 := by decide
theorem ub_bl (b : Bool) : b.toNat < 2 := by cases b <;> decide
theorem ub_bl1 (b : Bool) : b.toNat ≤ 1 := by cases b <;> decide
end
section
/-! sums, cuts, residual networks: plain naturals -/
def ub_s (f : Nat → Nat) : Nat → Nat
  | 0 => 0
  | n + 1 => ub_s f n + f n
theorem ub_s_congr {f g : Nat → Nat} : ∀ n, (∀ j, j < n → f j = g j) → ub_s f n = ub_s g n := by
  intro n
  induction n with
  | zero => intro _; rfl
  | succ n ih =>
    intro h
    show ub_s f n + f n = ub_s g n + g n
    rw [ih (fun j hj => h j (by omega)), h n (by omega)]
theorem ub_s_le {f : Nat → Nat} {m : Nat} : ∀ n, (∀ j, j < n → f j ≤ m) → ub_s f n ≤ m * n := by
  intro n
  induction n with
  | zero => intro _; exact Nat.zero_le _
  | succ n ih =>
    intro h
    have h1 := ih (fun j hj => h j (by omega))
    have h2 := h n (by omega)
    show ub_s f n + f n ≤ m * (n + 1)
    rw [Nat.mul_succ]
    omega
theorem ub_s_mem {f : Nat → Nat} {j : Nat} : ∀ n, j < n → f j ≤ ub_s f n := by
  intro n
  induction n with
  | zero => intro h; omega
  | succ n ih =>
    intro h
    show f j ≤ ub_s f n + f n
    by_cases e : j = n
    · subst e; omega
    · have := ih (by omega); omega
theorem ub_s_0 {f : Nat → Nat} : ∀ n, (∀ j, j < n → f j = 0) → ub_s f n = 0 := by
  intro n
  induction n with
  | zero => intro _; rfl
  | succ n ih =>
    intro h
    show ub_s f n + f n = 0
    rw [ih (fun j hj => h j (by omega)), h n (by omega)]
theorem ub_s_upd {f g : Nat → Nat} {i : Nat} : ∀ n, i < n → (∀ j, j < n → j ≠ i → g j = f j) → ub_s g n + f i = ub_s f n + g i := by
  intro n
  induction n with
  | zero => intro h; omega
  | succ n ih =>
    intro h hj
    show ub_s g n + g n + f i = ub_s f n + f n + g i
    by_cases e : i = n
    · subst e
      rw [ub_s_congr i (fun j hj2 => hj j (by omega) (by omega))]
      omega
    · have h1 := ih (by omega) (fun j hj2 ne => hj j (by omega) ne)
      have h2 := hj n (by omega) (fun z => e z.symm)
      omega
/-- does the cell k cross the cut b (true: the sink's side) forward? -/
def ub_x (b : Nat → Bool) (k : Nat) : Bool := !b (k / 12) && b (k % 12)
theorem ub_x_at (b : Nat → Bool) (u : Nat) {v : Nat} (hv : v < 12) : ub_x b (12 * u + v) = (!b u && b v) := by
  unfold ub_x
  rw [show (12 * u + v) / 12 = u by omega, show (12 * u + v) % 12 = v by omega]
/-- what the cut b lets through -/
def ub_cv (b : Nat → Bool) (L : Nat → Nat) : Nat := ub_s (fun k => if ub_x b k = true then L k else 0) 144
theorem ub_cv_u (b : Nat → Bool) (L : Nat → Nat) {i : Nat} (x : Nat) (hi : i < 144) :
    ub_cv b (ub_u L i x) + (if ub_x b i = true then L i else 0) = ub_cv b L + (if ub_x b i = true then x else 0) := by
  have h := ub_s_upd (f := fun k => if ub_x b k = true then L k else 0) (g := fun k => if ub_x b k = true then ub_u L i x k else 0) (i := i) 144 hi
    (fun j _ ne => by (try dsimp only); rw [ub_un ne])
  try dsimp only at h
  rw [ub_us] at h
  exact h
theorem ub_cv_congr (b : Nat → Bool) {L M : Nat → Nat} (h : ∀ k, k < 144 → L k = M k) : ub_cv b L = ub_cv b M :=
  ub_s_congr 144 (fun j hj => by (try dsimp only); rw [h j hj])
theorem ub_cv_z (b : Nat → Bool) {L : Nat → Nat} (h : ∀ k, k < 144 → L k = 0) : ub_cv b L = 0 :=
  ub_s_0 144 (fun j hj => by (try dsimp only); rw [h j hj, ite_self])
/-- nothing is left from the source's side to the sink's -/
def ub_cl (b : Nat → Bool) (L : Nat → Nat) : Prop := ∀ u v, u < 12 → v < 12 → b u = false → b v = true → L (12 * u + v) = 0
theorem ub_cv_cl {b : Nat → Bool} {L : Nat → Nat} (h : ub_cv b L = 0) : ub_cl b L := by
  intro u v hu hv h1 h2
  have h3 := ub_s_mem (f := fun k => if ub_x b k = true then L k else 0) (j := 12 * u + v) 144 (by omega)
  have h4 : ub_s (fun k => if ub_x b k = true then L k else 0) 144 = 0 := h
  rw [h4] at h3
  try dsimp only at h3
  rw [ub_x_at b u hv, h1, h2] at h3
  have h5 : L (12 * u + v) ≤ 0 := h3
  omega
theorem ub_cl_cv {b : Nat → Bool} {L : Nat → Nat} (h : ub_cl b L) : ub_cv b L = 0 := by
  refine ub_s_0 144 (fun k hk => ?_)
  try dsimp only
  split
  · rename_i hx
    unfold ub_x at hx
    rw [Bool.and_eq_true, Bool.not_eq_true'] at hx
    have := h (k / 12) (k % 12) (by omega) (by omega) hx.1 hx.2
    rw [show 12 * (k / 12) + k % 12 = k by omega] at this
    exact this
  · rfl
/-- one step of a push: from p to v -/
theorem ub_cv_step (b : Nat → Bool) (L : Nat → Nat) {p v a : Nat} (hp : p < 12) (hv : v < 12) (ha : a ≤ L (12 * p + v)) :
    ub_cv b (ub_u (ub_u L (12 * p + v) (L (12 * p + v) - a)) (12 * v + p) (ub_u L (12 * p + v) (L (12 * p + v) - a) (12 * v + p) + a)) + (if b p = true then 0 else a)
      = ub_cv b L + (if b v = true then 0 else a) := by
  have h1 := ub_cv_u b L (i := 12 * p + v) (L (12 * p + v) - a) (by omega)
  have h2 := ub_cv_u b (ub_u L (12 * p + v) (L (12 * p + v) - a)) (i := 12 * v + p) (ub_u L (12 * p + v) (L (12 * p + v) - a) (12 * v + p) + a) (by omega)
  rw [ub_x_at b p hv] at h1
  rw [ub_x_at b v hp] at h2
  generalize ub_u L (12 * p + v) (L (12 * p + v) - a) = M at *
  cases hbp : b p <;> cases hbv : b v <;> rw [hbp, hbv] at h1 h2 <;> simp at h1 h2 ⊢ <;> omega
/-- the cost of the flow f under b (true: boxed), the flow sk left out -/
def ub_fc (fr to bx ux : Nat → Nat) (sk : Int32) (b : Nat → Bool) (f : Nat) : Nat :=
  if nI f = sk then 0 else if b (fr f) = b (to f) then 0 else if b (fr f) = false then bx f else ux f
/-- the cost of b -/
def ub_tot (n c : Nat) (F fr to bx ux : Nat → Nat) (sk : Int32) (b : Nat → Bool) : Nat :=
  ub_s (fun v => F (2 * v + (b v).toNat)) n + ub_s (ub_fc fr to bx ux sk b) c
/-- what the network asks for the value v under b -/
def ub_cp (w F : Nat → Nat) (b : Nat → Bool) (v : Nat) : Nat :=
  if b v = true then (if w v = 0 then 100000 else F (2 * v + 1)) else (if w v = 1 then 100000 else F (2 * v))
def ub_net (n c : Nat) (F fr to bx ux w : Nat → Nat) (sk : Int32) (b : Nat → Bool) : Nat :=
  ub_s (ub_cp w F b) n + ub_s (ub_fc fr to bx ux sk b) c
/-- b is as wanted -/
def ub_ag (w : Nat → Nat) (n : Nat) (b : Nat → Bool) : Prop := ∀ v, v < n → (w v = 0 → b v = false) ∧ (w v = 1 → b v = true)
theorem ub_net_ag {n c : Nat} {F fr to bx ux w : Nat → Nat} {sk : Int32} {b : Nat → Bool} (h : ub_ag w n b) :
    ub_net n c F fr to bx ux w sk b = ub_tot n c F fr to bx ux sk b := by
  unfold ub_net ub_tot
  rw [ub_s_congr n (fun j hj => ?_)]
  obtain ⟨h0, h1⟩ := h j hj
  try dsimp only
  unfold ub_cp
  cases hb : b j
  · rw [if_neg (by decide), if_neg (fun z => by rw [h1 z] at hb; exact absurd hb (by decide))]
    rfl
  · rw [if_pos rfl, if_neg (fun z => by rw [h0 z] at hb; exact absurd hb (by decide))]
    rfl
theorem ub_net_na {n c : Nat} {F fr to bx ux w : Nat → Nat} {sk : Int32} {b : Nat → Bool} (h : ¬ ub_ag w n b) :
    100000 ≤ ub_net n c F fr to bx ux w sk b := by
  have h' : ∃ v, v < n ∧ ¬ ((w v = 0 → b v = false) ∧ (w v = 1 → b v = true)) := by
    apply Classical.byContradiction
    intro hn
    apply h
    intro v hv
    apply Classical.byContradiction
    intro h2
    exact hn ⟨v, hv, h2⟩
  obtain ⟨v, hv, h2⟩ := h'
  have h3 := ub_s_mem (f := ub_cp w F b) (j := v) n hv
  have h4 : ub_cp w F b v = 100000 := by
    unfold ub_cp
    cases hb : b v
    · rw [if_neg (by decide)]
      apply if_pos
      apply Classical.byContradiction
      intro h5
      exact h2 ⟨fun _ => hb, fun z => absurd z h5⟩
    · rw [if_pos rfl]
      apply if_pos
      apply Classical.byContradiction
      intro h5
      exact h2 ⟨fun z => absurd z h5, fun _ => hb⟩
  unfold ub_net
  omega
theorem ub_fc_le {fr to bx ux : Nat → Nat} {sk : Int32} {b : Nat → Bool} (hb : ∀ j, bx j ≤ 30) (hu : ∀ j, ux j ≤ 30) (f : Nat) : ub_fc fr to bx ux sk b f ≤ 30 := by
  unfold ub_fc
  split
  · omega
  · split
    · omega
    · split
      · exact hb f
      · exact hu f
theorem ub_tot_le {n c : Nat} {F fr to bx ux : Nat → Nat} {sk : Int32} {b : Nat → Bool} (hn : n ≤ 10) (hc : c ≤ 20) (hF : ∀ j, F j ≤ 60) (hb : ∀ j, bx j ≤ 30) (hu : ∀ j, ux j ≤ 30) :
    ub_tot n c F fr to bx ux sk b ≤ 1200 := by
  have h1 := ub_s_le (f := fun v => F (2 * v + (b v).toNat)) (m := 60) n (fun j _ => hF _)
  have h2 := ub_s_le (f := ub_fc fr to bx ux sk b) (m := 30) c (fun j _ => ub_fc_le hb hu j)
  unfold ub_tot
  omega
/-- the cost and the wishes see b below n alone -/
theorem ub_tot_congr {n c : Nat} {F fr to bx ux : Nat → Nat} {sk : Int32} {b b' : Nat → Bool} (hf : ∀ j, fr j < n) (ht : ∀ j, to j < n) (h : ∀ v, v < n → b v = b' v) :
    ub_tot n c F fr to bx ux sk b = ub_tot n c F fr to bx ux sk b' := by
  unfold ub_tot
  rw [ub_s_congr n (g := fun v => F (2 * v + (b' v).toNat)) (fun j hj => by (try dsimp only); rw [h j hj]),
    ub_s_congr c (g := ub_fc fr to bx ux sk b') (fun j _ => by unfold ub_fc; rw [h _ (hf j), h _ (ht j)])]
theorem ub_ag_congr {w : Nat → Nat} {n : Nat} {b b' : Nat → Bool} (h : ∀ v, v < n → b v = b' v) (a : ub_ag w n b) : ub_ag w n b' := by
  intro v hv
  rw [← h v hv]
  exact a v hv
/-- b as a cut -/
def ub_fx (b : Nat → Bool) (v : Nat) : Bool := if v = 10 then false else if v = 11 then true else b v
theorem ub_fx_lt {b : Nat → Bool} {v : Nat} (h : v < 10) : ub_fx b v = b v := by
  unfold ub_fx
  rw [if_neg (by omega), if_neg (by omega)]
/-- the plan of b -/
def ub_pl (b : Nat → Bool) : Nat → Nat
  | 0 => 0
  | n + 1 => ub_pl b n ||| (if b n = true then 2 ^ n else 0)
theorem ub_pl_bit (b : Nat → Bool) (v : Nat) : ∀ n, (ub_pl b n).testBit v = (decide (v < n) && b v) := by
  intro n
  induction n with
  | zero =>
    show Nat.testBit 0 v = _
    rw [Nat.zero_testBit, decide_eq_false (by omega)]
    rfl
  | succ n ih =>
    show (ub_pl b n ||| (if b n = true then 2 ^ n else 0)).testBit v = _
    rw [Nat.testBit_or, ih]
    by_cases e : v = n
    · subst e
      rw [decide_eq_false (by omega), decide_eq_true (by omega)]
      cases hb : b v
      · rw [if_neg (by decide), Nat.zero_testBit]; rfl
      · rw [if_pos rfl, Nat.testBit_two_pow_self]; rfl
    · have h0 : (if b n = true then 2 ^ n else 0).testBit v = false := by
        split
        · exact Nat.testBit_two_pow_of_ne (fun z => e z.symm)
        · exact Nat.zero_testBit v
      rw [h0, Bool.or_false]
      by_cases h : v < n
      · rw [decide_eq_true h, decide_eq_true (by omega)]
      · rw [decide_eq_false h, decide_eq_false (by omega)]
theorem ub_pl_lt (b : Nat → Bool) (n : Nat) : ub_pl b n < 2 ^ n := by
  refine Nat.lt_pow_two_of_testBit _ (fun i hi => ?_)
  rw [ub_pl_bit, decide_eq_false (by omega)]
  rfl
theorem ub_pl_at {b : Nat → Bool} {n v : Nat} (h : v < n) : (ub_pl b n).testBit v = b v := by
  rw [ub_pl_bit, decide_eq_true h]
  rfl
end
section
/-! the plain law: a greatest flow gives the least cost, and the closed sets are the best plans -/
/-- the numbers of a planner -/
def ub_ok (n c : Nat) (F fr to bx ux : Nat → Nat) : Prop :=
  2 ≤ n ∧ n ≤ 10 ∧ c ≤ 20 ∧ (∀ j, F j ≤ 60) ∧ (∀ j, fr j < n) ∧ (∀ j, to j < n) ∧ (∀ j, bx j ≤ 30) ∧ (∀ j, ux j ≤ 30)
/-- a greatest flow of size t has left L -/
def ub_mf (n c : Nat) (F fr to bx ux w : Nat → Nat) (sk : Int32) (L : Nat → Nat) (t : Nat) : Prop :=
  (∀ k, k < 144 → L k ≤ 200000) ∧ (∀ b : Nat → Bool, b 10 = false → b 11 = true → ub_cv b L + t = ub_net n c F fr to bx ux w sk b)
    ∧ ∃ b : Nat → Bool, b 10 = false ∧ b 11 = true ∧ ub_cv b L = 0
/-- a cut as wanted -/
def ub_b0 (w : Nat → Nat) (v : Nat) : Bool := ub_fx (fun v => decide (w v = 1)) v
section
variable {n c : Nat} {F fr to bx ux w : Nat → Nat} {sk : Int32} {L : Nat → Nat} {t : Nat}
theorem ub_b0_ag (hn : n ≤ 10) : ub_ag w n (ub_b0 w) := by
  intro v hv
  have e : ub_b0 w v = decide (w v = 1) := ub_fx_lt (by omega)
  rw [e]
  exact ⟨fun z => decide_eq_false (by omega), fun z => decide_eq_true z⟩
theorem ub_b0_net (ok : ub_ok n c F fr to bx ux) : ub_net n c F fr to bx ux w sk (ub_b0 w) ≤ 1200 := by
  obtain ⟨_, hn, hc, hF, _, _, hb, hu⟩ := ok
  rw [ub_net_ag (ub_b0_ag hn)]
  exact ub_tot_le hn hc hF hb hu
theorem ub_mf_t (ok : ub_ok n c F fr to bx ux) (h : ub_mf n c F fr to bx ux w sk L t) : t ≤ 1200 := by
  have h1 := h.2.1 (ub_b0 w) rfl rfl
  have h2 := ub_b0_net (w := w) (sk := sk) ok
  omega
theorem ub_mf_cl (ok : ub_ok n c F fr to bx ux) (h : ub_mf n c F fr to bx ux w sk L t) {b : Nat → Bool} (h0 : b 10 = false) (h1 : b 11 = true) (hc : ub_cl b L) :
    ub_ag w n b ∧ ub_tot n c F fr to bx ux sk b = t := by
  have h2 := h.2.1 b h0 h1
  rw [ub_cl_cv hc, Nat.zero_add] at h2
  have h3 := ub_mf_t ok h
  by_cases ha : ub_ag w n b
  · rw [ub_net_ag ha] at h2
    exact ⟨ha, h2.symm⟩
  · have := ub_net_na (c := c) (F := F) (fr := fr) (to := to) (bx := bx) (ux := ux) (sk := sk) ha
    omega
theorem ub_fx_tot (ok : ub_ok n c F fr to bx ux) (b : Nat → Bool) : ub_tot n c F fr to bx ux sk (ub_fx b) = ub_tot n c F fr to bx ux sk b := by
  obtain ⟨_, hn, _, _, hf, ht, _, _⟩ := ok
  exact ub_tot_congr hf ht (fun v hv => ub_fx_lt (by omega))
theorem ub_fx_ag (hn : n ≤ 10) {b : Nat → Bool} (h : ub_ag w n b) : ub_ag w n (ub_fx b) :=
  ub_ag_congr (fun v hv => (ub_fx_lt (by omega)).symm) h
theorem ub_mf_le (ok : ub_ok n c F fr to bx ux) (h : ub_mf n c F fr to bx ux w sk L t) {b : Nat → Bool} (ha : ub_ag w n b) :
    t ≤ ub_tot n c F fr to bx ux sk b := by
  have h2 := h.2.1 (ub_fx b) rfl rfl
  rw [ub_net_ag (ub_fx_ag ok.2.1 ha), ub_fx_tot ok] at h2
  omega
theorem ub_mf_eq (ok : ub_ok n c F fr to bx ux) (h : ub_mf n c F fr to bx ux w sk L t) {b : Nat → Bool} (ha : ub_ag w n b)
    (e : ub_tot n c F fr to bx ux sk b = t) : ub_cl (ub_fx b) L := by
  have h2 := h.2.1 (ub_fx b) rfl rfl
  rw [ub_net_ag (ub_fx_ag ok.2.1 ha), ub_fx_tot ok, e] at h2
  exact ub_cv_cl (by omega)
theorem ub_pl_tot (ok : ub_ok n c F fr to bx ux) (b : Nat → Bool) : ub_tot n c F fr to bx ux sk (ub_pl b n).testBit = ub_tot n c F fr to bx ux sk b := by
  obtain ⟨_, hn, _, _, hf, ht, _, _⟩ := ok
  exact ub_tot_congr hf ht (fun v hv => ub_pl_at hv)
theorem ub_pl_ag {b : Nat → Bool} (h : ub_ag w n b) : ub_ag w n (ub_pl b n).testBit :=
  ub_ag_congr (fun v hv => (ub_pl_at hv).symm) h
/-- the least of T where A, below N; r0 if there is none -/
def ub_mn (A : Nat → Prop) (T : Nat → Nat) (N : Nat) (r0 r : Int32) : Prop :=
  (r = r0 ∧ ∀ p, p < N → ¬ A p) ∨ ∃ p, p < N ∧ A p ∧ r = nI (T p) ∧ ∀ q, q < N → A q → T p ≤ T q
theorem ub_mn_uq {A : Nat → Prop} {T : Nat → Nat} {N : Nat} {r0 r r' : Int32} (h : ub_mn A T N r0 r) (h' : ub_mn A T N r0 r') : r = r' := by
  rcases h with ⟨rfl, h⟩ | ⟨p, hp, ha, rfl, hl⟩
  · rcases h' with ⟨rfl, _⟩ | ⟨p', hp', ha', _⟩
    · rfl
    · exact absurd ha' (h p' hp')
  · rcases h' with ⟨_, h'⟩ | ⟨p', hp', ha', rfl, hl'⟩
    · exact absurd ha (h' p hp)
    · exact congrArg nI (Nat.le_antisymm (hl p' hp' ha') (hl' p hp ha))
theorem ub_mn_congr {A A' : Nat → Prop} {T : Nat → Nat} {N : Nat} {r0 r : Int32} (e : ∀ p, p < N → (A p ↔ A' p)) (h : ub_mn A T N r0 r) : ub_mn A' T N r0 r := by
  rcases h with ⟨rfl, h⟩ | ⟨p, hp, ha, rfl, hl⟩
  · exact Or.inl ⟨rfl, fun p hp z => h p hp ((e p hp).mpr z)⟩
  · exact Or.inr ⟨p, hp, (e p hp).mp ha, rfl, fun q hq z => hl q hq ((e q hq).mpr z)⟩
theorem ub_mn_0 {A : Nat → Prop} {T : Nat → Nat} {r0 : Int32} : ub_mn A T 0 r0 r0 := Or.inl ⟨rfl, fun p hp => absurd hp (by omega)⟩
theorem ub_mn_skip {A : Nat → Prop} {T : Nat → Nat} {N : Nat} {r0 r : Int32} (h : ub_mn A T N r0 r) (ha : ¬ A N) : ub_mn A T (N + 1) r0 r := by
  rcases h with ⟨rfl, h⟩ | ⟨p, hp, hA, rfl, hl⟩
  · refine Or.inl ⟨rfl, fun p hp => ?_⟩
    by_cases e : p = N
    · subst e; exact ha
    · exact h p (by omega)
  · refine Or.inr ⟨p, by omega, hA, rfl, fun q hq z => ?_⟩
    by_cases e : q = N
    · subst e; exact absurd z ha
    · exact hl q (by omega) z
/-- a first or a smaller one -/
theorem ub_mn_neg {A : Nat → Prop} {T : Nat → Nat} {N : Nat} {r0 r : Int32} (h : ub_mn A T N r0 r) (hT : ∀ p, T p < 2 ^ 31) (hr : r < 0) (ha : A N) : ub_mn A T (N + 1) r0 (nI (T N)) := by
  rcases h with ⟨rfl, h⟩ | ⟨p, hp, hA, rfl, hl⟩
  · refine Or.inr ⟨N, by omega, ha, rfl, fun q hq z => ?_⟩
    by_cases e : q = N
    · subst e; exact Nat.le_refl _
    · exact absurd z (h q (by omega))
  · exact absurd hr (nI_pos (hT p))
theorem ub_mn_keep {A : Nat → Prop} {T : Nat → Nat} {N : Nat} {r0 r : Int32} (h : ub_mn A T N r0 r) (hT : ∀ p, T p < 2 ^ 31) (h0 : r0 < 0) (hr : ¬ r < 0) (hc : r ≤ nI (T N)) (ha : A N) : ub_mn A T (N + 1) r0 r := by
  rcases h with ⟨rfl, h⟩ | ⟨p, hp, hA, rfl, hl⟩
  · exact absurd h0 hr
  · rw [nI_leI (hT p) (hT N)] at hc
    refine Or.inr ⟨p, by omega, hA, rfl, fun q hq z => ?_⟩
    by_cases e : q = N
    · subst e; exact hc
    · exact hl q (by omega) z
theorem ub_mn_less {A : Nat → Prop} {T : Nat → Nat} {N : Nat} {r0 r : Int32} (h : ub_mn A T N r0 r) (hT : ∀ p, T p < 2 ^ 31) (h0 : r0 < 0) (hr : ¬ r < 0) (hc : ¬ r ≤ nI (T N)) (ha : A N) : ub_mn A T (N + 1) r0 (nI (T N)) := by
  rcases h with ⟨rfl, h⟩ | ⟨p, hp, hA, rfl, hl⟩
  · exact absurd h0 hr
  · rw [nI_leI (hT p) (hT N)] at hc
    refine Or.inr ⟨N, by omega, ha, rfl, fun q hq z => ?_⟩
    by_cases e : q = N
    · subst e; exact Nat.le_refl _
    · have := hl q (by omega) z; omega
/-- the flow's size is the least cost -/
theorem ub_mf_mn (ok : ub_ok n c F fr to bx ux) (h : ub_mf n c F fr to bx ux w sk L t) (r0 : Int32) :
    ub_mn (fun p => ub_ag w n p.testBit) (fun p => ub_tot n c F fr to bx ux sk p.testBit) (2 ^ n) r0 (nI t) := by
  obtain ⟨b, h0, h1, h2⟩ := h.2.2
  obtain ⟨ha, he⟩ := ub_mf_cl ok h h0 h1 (ub_cv_cl h2)
  refine Or.inr ⟨ub_pl b n, ub_pl_lt b n, ub_pl_ag ha, ?_, fun q _ hq => ?_⟩
  · dsimp only
    rw [ub_pl_tot ok, he]
  · dsimp only
    rw [ub_pl_tot ok, he]
    exact ub_mf_le ok h hq
/-- R holds what reaches the sink over L -/
def ub_rs (L : Nat → Nat) (R : Nat → Bool) : Prop :=
  R 11 = true ∧ ub_cl R L ∧ ∀ b : Nat → Bool, b 11 = true → ub_cl b L → ∀ v, v < 12 → R v = true → b v = true
theorem ub_rs_cm (ok : ub_ok n c F fr to bx ux) (h : ub_mf n c F fr to bx ux w sk L t) {R : Nat → Bool} (hR : ub_rs L R) {v : Nat} (hv : v < n) :
    R v = true ↔ ∀ p, p < 2 ^ n → ub_ag w n p.testBit → ub_tot n c F fr to bx ux sk p.testBit = t → p.testBit v = true := by
  have hn := ok.2.1
  obtain ⟨r1, r2, r3⟩ := hR
  constructor
  · intro hr p hp ha he
    have h1 := r3 (ub_fx p.testBit) rfl (ub_mf_eq ok h ha he) v (by omega) hr
    rw [ub_fx_lt (by omega)] at h1
    exact h1
  · intro hp
    obtain ⟨b, h0, h1, h2⟩ := h.2.2
    have r0 : R 10 = false := by
      cases e : R 10
      · rfl
      · have := r3 b h1 (ub_cv_cl h2) 10 (by omega) e
        rw [h0] at this
        exact absurd this (by decide)
    obtain ⟨ha, he⟩ := ub_mf_cl ok h r0 r1 r2
    have h3 := hp (ub_pl R n) (ub_pl_lt R n) (ub_pl_ag ha) (by rw [ub_pl_tot ok, he])
    rw [ub_pl_at hv] at h3
    exact h3
/-- pr holds a tree of what the source reaches over L; its ranks are rk -/
def ub_sr (L : Nat → Nat) (pr : Nat → Int32) (rk : Nat → Nat) : Prop :=
  ¬ pr 10 = -1 ∧ (∀ u v, u < 12 → v < 12 → ¬ pr u = -1 → 0 < L (12 * u + v) → ¬ pr v = -1)
    ∧ (∀ v, v < 12 → ¬ v = 10 → ¬ pr v = -1 → ∃ p, p < 12 ∧ pr v = nI p ∧ ¬ pr p = -1 ∧ rk p < rk v ∧ 0 < L (12 * p + v))
    ∧ ∀ v, v < 12 → ¬ pr v = -1 → rk v < 12
theorem ub_sr_least {pr : Nat → Int32} {rk : Nat → Nat} (h : ub_sr L pr rk) {b : Nat → Bool} (hb : b 10 = false) (hc : ub_cl b L) :
    ∀ d v, rk v < d → v < 12 → ¬ pr v = -1 → b v = false := by
  intro d
  induction d with
  | zero => intro v h0; omega
  | succ d ih =>
    intro v hr hv hp
    by_cases e : v = 10
    · rw [e]; exact hb
    · obtain ⟨p, hp12, _, hpp, hrk, hL⟩ := h.2.2.1 v hv e hp
      have h1 := ih p (by omega) hp12 hpp
      cases e2 : b v
      · rfl
      · have := hc p v hp12 hv h1 e2
        omega
theorem ub_sr_sm (ok : ub_ok n c F fr to bx ux) (h : ub_mf n c F fr to bx ux w sk L t) {pr : Nat → Int32} {rk : Nat → Nat} (hs : ub_sr L pr rk) {v : Nat} (hv : v < n) :
    pr v = -1 ↔ ∃ p, p < 2 ^ n ∧ ub_ag w n p.testBit ∧ ub_tot n c F fr to bx ux sk p.testBit = t ∧ p.testBit v = true := by
  have hn := ok.2.1
  constructor
  · intro hp
    obtain ⟨b, h0, h1, h2⟩ := h.2.2
    have e11 : pr 11 = -1 := by
      apply Classical.byContradiction
      intro z
      have := ub_sr_least hs h0 (ub_cv_cl h2) (rk 11 + 1) 11 (by omega) (by omega) z
      rw [h1] at this
      exact absurd this (by decide)
    have hcl : ub_cl (fun v => decide (pr v = -1)) L := by
      intro u v hu hv h3 h4
      have h3' := of_decide_eq_false h3
      have h4' := of_decide_eq_true h4
      apply Classical.byContradiction
      intro z
      exact hs.2.1 u v hu hv h3' (by omega) h4'
    obtain ⟨ha, he⟩ := ub_mf_cl ok h (b := fun v => decide (pr v = -1)) (decide_eq_false hs.1) (decide_eq_true e11) hcl
    refine ⟨ub_pl (fun v => decide (pr v = -1)) n, ub_pl_lt _ n, ub_pl_ag ha, by rw [ub_pl_tot ok, he], ?_⟩
    rw [ub_pl_at hv]
    exact decide_eq_true hp
  · rintro ⟨p, hp, ha, he, hb⟩
    apply Classical.byContradiction
    intro z
    have := ub_sr_least hs (b := ub_fx p.testBit) rfl (ub_mf_eq ok h ha he) (rk v + 1) v (by omega) (by omega) z
    rw [ub_fx_lt (by omega), hb] at this
    exact absurd this (by decide)
end
/-- the bits that all best plans have; that some best plan has -/
def ub_cm (A : Nat → Prop) (T : Nat → Nat) (n N t r : Nat) : Prop := ∀ v, r.testBit v = true ↔ v < n ∧ ∀ p, p < N → A p → T p = t → p.testBit v = true
def ub_sm (A : Nat → Prop) (T : Nat → Nat) (N t r : Nat) : Prop := ∀ v, r.testBit v = true ↔ ∃ p, p < N ∧ A p ∧ T p = t ∧ p.testBit v = true
theorem ub_bits {a b : Nat} (h : ∀ v, a.testBit v = true ↔ b.testBit v = true) : a = b :=
  Nat.eq_of_testBit_eq (fun i => Bool.eq_iff_iff.mpr (h i))
theorem ub_cm_uq {A : Nat → Prop} {T : Nat → Nat} {n N t r r' : Nat} (h : ub_cm A T n N t r) (h' : ub_cm A T n N t r') : r = r' :=
  ub_bits (fun v => (h v).trans (h' v).symm)
theorem ub_sm_uq {A : Nat → Prop} {T : Nat → Nat} {N t r r' : Nat} (h : ub_sm A T N t r) (h' : ub_sm A T N t r') : r = r' :=
  ub_bits (fun v => (h v).trans (h' v).symm)
theorem ub_cm_skip {A : Nat → Prop} {T : Nat → Nat} {n N t r : Nat} (h : ub_cm A T n N t r) (ha : ¬ (A N ∧ T N = t)) : ub_cm A T n (N + 1) t r := by
  intro v
  rw [h v]
  constructor
  · rintro ⟨hv, h1⟩
    refine ⟨hv, fun p hp a e => ?_⟩
    by_cases z : p = N
    · subst z; exact absurd ⟨a, e⟩ ha
    · exact h1 p (by omega) a e
  · rintro ⟨hv, h1⟩
    exact ⟨hv, fun p hp => h1 p (by omega)⟩
theorem ub_cm_take {A : Nat → Prop} {T : Nat → Nat} {n N t r : Nat} (h : ub_cm A T n N t r) (ha : A N) (ht : T N = t) : ub_cm A T n (N + 1) t (r &&& N) := by
  intro v
  rw [Nat.testBit_and, Bool.and_eq_true, h v]
  constructor
  · rintro ⟨⟨hv, h1⟩, h2⟩
    refine ⟨hv, fun p hp a e => ?_⟩
    by_cases z : p = N
    · subst z; exact h2
    · exact h1 p (by omega) a e
  · rintro ⟨hv, h1⟩
    exact ⟨⟨hv, fun p hp => h1 p (by omega)⟩, h1 N (by omega) ha ht⟩
theorem ub_cm_0 {A : Nat → Prop} {T : Nat → Nat} {n t : Nat} : ub_cm A T n 0 t (2 ^ n - 1) := by
  intro v
  rw [Nat.testBit_two_pow_sub_one, decide_eq_true_eq]
  exact ⟨fun h => ⟨h, fun p hp => absurd hp (by omega)⟩, fun h => h.1⟩
theorem ub_sm_skip {A : Nat → Prop} {T : Nat → Nat} {N t r : Nat} (h : ub_sm A T N t r) (ha : ¬ (A N ∧ T N = t)) : ub_sm A T (N + 1) t r := by
  intro v
  rw [h v]
  constructor
  · rintro ⟨p, hp, h1⟩
    exact ⟨p, by omega, h1⟩
  · rintro ⟨p, hp, a, e, b⟩
    refine ⟨p, ?_, a, e, b⟩
    by_cases z : p = N
    · subst z; exact absurd ⟨a, e⟩ ha
    · omega
theorem ub_sm_take {A : Nat → Prop} {T : Nat → Nat} {N t r : Nat} (h : ub_sm A T N t r) (ha : A N) (ht : T N = t) : ub_sm A T (N + 1) t (r ||| N) := by
  intro v
  rw [Nat.testBit_or, Bool.or_eq_true, h v]
  constructor
  · rintro (⟨p, hp, h1⟩ | h1)
    · exact ⟨p, by omega, h1⟩
    · exact ⟨N, by omega, ha, ht, h1⟩
  · rintro ⟨p, hp, a, e, b⟩
    by_cases z : p = N
    · subst z; exact Or.inr b
    · exact Or.inl ⟨p, by omega, a, e, b⟩
theorem ub_sm_0 {A : Nat → Prop} {T : Nat → Nat} {t : Nat} : ub_sm A T 0 t 0 := by
  intro v
  rw [Nat.zero_testBit]
  exact ⟨fun h => absurd h (by decide), fun ⟨p, hp, _⟩ => absurd hp (by omega)⟩
/-- every bit lies below n -/
theorem ub_cm_lt {A : Nat → Prop} {T : Nat → Nat} {n N t r : Nat} (h : ub_cm A T n N t r) : r < 2 ^ n := by
  refine Nat.lt_pow_two_of_testBit _ (fun i hi => ?_)
  cases e : r.testBit i
  · rfl
  · have := ((h i).mp e).1
    omega
theorem ub_tb_lt {p n v : Nat} (hp : p < 2 ^ n) (h : p.testBit v = true) : v < n := by
  apply Classical.byContradiction
  intro z
  rw [Nat.testBit_lt_two_pow (Nat.lt_of_lt_of_le hp (Nat.pow_le_pow_right (by decide) (by omega)))] at h
  exact absurd h (by decide)
theorem ub_sm_lt {A : Nat → Prop} {T : Nat → Nat} {n N t r : Nat} (h : ub_sm A T N t r) (hN : N ≤ 2 ^ n) : r < 2 ^ n := by
  refine Nat.lt_pow_two_of_testBit _ (fun i hi => ?_)
  cases e : r.testBit i
  · rfl
  · obtain ⟨p, hp, _, _, hb⟩ := (h i).mp e
    have := ub_tb_lt (Nat.lt_of_lt_of_le hp hN) hb
    omega
end
section
/-! X's search: a tree of what the source reaches -/
theorem ub_ix (u v : Nat) : 12 * nI u + nI v = nI (12 * u + v) := by
  show nI 12 * nI u + nI v = _
  rw [pk_mul, nI_add]
theorem ub_ix2 (u v : Nat) : 2 * nI u + nI v = nI (2 * u + v) := by
  show nI 2 * nI u + nI v = _
  rw [pk_mul, nI_add]
/-- the search's state: q nodes are queued -/
def ub_bf (L : Nat → Nat) (pr qu : Nat → Int32) (rk : Nat → Nat) (q : Nat) : Prop :=
  ub_s (fun v => if pr v = -1 then 0 else 1) 12 = q ∧ (∀ i, i < q → ∃ u, u < 12 ∧ qu i = nI u ∧ ¬ pr u = -1)
    ∧ (∀ v, v < 12 → ¬ pr v = -1 → rk v < q ∧ qu (rk v) = nI v)
    ∧ (∀ v, v < 12 → ¬ v = 10 → ¬ pr v = -1 → ∃ p, p < 12 ∧ pr v = nI p ∧ ¬ pr p = -1 ∧ rk p < rk v ∧ 0 < L (12 * p + v))
    ∧ ¬ pr 10 = -1
/-- the first k of the queue have been looked at -/
def ub_bp (L : Nat → Nat) (pr qu : Nat → Int32) (k : Nat) : Prop :=
  ∀ i u v, i < k → qu i = nI u → u < 12 → v < 12 → 0 < L (12 * u + v) → ¬ pr v = -1
theorem ub_bf_q {L : Nat → Nat} {pr qu : Nat → Int32} {rk : Nat → Nat} {q : Nat} (h : ub_bf L pr qu rk q) : q ≤ 12 := by
  have h1 := ub_s_le (f := fun v => if pr v = -1 then 0 else 1) (m := 1) 12 (fun j _ => by (try dsimp only); split <;> omega)
  have h2 := h.1
  omega
/-- one more node -/
theorem ub_bf_add {L : Nat → Nat} {pr qu : Nat → Int32} {rk : Nat → Nat} {q u v : Nat} (h : ub_bf L pr qu rk q) (hu : u < 12) (hv : v < 12) (hpu : ¬ pr u = -1) (hpv : pr v = -1) (hL : 0 < L (12 * u + v)) :
    q < 12 ∧ ub_bf L (upd pr v (nI u)) (upd qu q (nI v)) (ub_u rk v q) (q + 1) := by
  obtain ⟨h1, h2, h3, h4, h5⟩ := h
  have hup : ∀ j, ¬ upd pr v (nI u) j = -1 ↔ (j = v ∨ ¬ pr j = -1) := by
    intro j
    by_cases e : j = v
    · subst e
      rw [pk_us]
      exact ⟨fun _ => Or.inl rfl, fun _ => ub_m1 (by omega)⟩
    · rw [pk_un e]
      exact ⟨fun z => Or.inr z, fun z => z.resolve_left e⟩
  have hc : ub_s (fun j => if upd pr v (nI u) j = -1 then 0 else 1) 12 = q + 1 := by
    have := ub_s_upd (f := fun j => if pr j = -1 then 0 else 1) (g := fun j => if upd pr v (nI u) j = -1 then 0 else 1) (i := v) 12 hv
      (fun j _ ne => by (try dsimp only); rw [pk_un ne])
    try dsimp only at this
    rw [pk_us, if_pos hpv, if_neg (ub_m1 (by omega)), h1] at this
    omega
  have hq : q < 12 := by
    have h1 := ub_s_le (f := fun j => if upd pr v (nI u) j = -1 then 0 else 1) (m := 1) 12 (fun j _ => by (try dsimp only); split <;> omega)
    omega
  refine ⟨hq, hc, ?_, ?_, ?_, ?_⟩
  · intro i hi
    by_cases e : i = q
    · subst e
      exact ⟨v, hv, pk_us, (hup v).mpr (Or.inl rfl)⟩
    · obtain ⟨u', a, b, c⟩ := h2 i (by omega)
      exact ⟨u', a, by rw [pk_un e]; exact b, (hup u').mpr (Or.inr c)⟩
  · intro j hj hp
    by_cases e : j = v
    · subst e
      rw [ub_us]
      exact ⟨by omega, pk_us⟩
    · rw [ub_un e]
      obtain ⟨a, b⟩ := h3 j hj (((hup j).mp hp).resolve_left e)
      exact ⟨by omega, by rw [pk_un (by omega)]; exact b⟩
  · intro j hj h10 hp
    by_cases e : j = v
    · subst e
      have hne : u ≠ j := fun z => hpu (by rw [z]; exact hpv)
      refine ⟨u, hu, pk_us, (hup u).mpr (Or.inr hpu), ?_, hL⟩
      rw [ub_us, ub_un hne]
      exact (h3 u hu hpu).1
    · obtain ⟨p, a, b, c, d, f⟩ := h4 j hj h10 (((hup j).mp hp).resolve_left e)
      have hne : p ≠ v := fun z => c (by rw [z]; exact hpv)
      refine ⟨p, a, by rw [pk_un e]; exact b, (hup p).mpr (Or.inr c), ?_, f⟩
      rw [ub_un e, ub_un hne]
      exact d
  · exact (hup 10).mpr (Or.inr h5)
theorem ub_bp_add {L : Nat → Nat} {pr qu : Nat → Int32} {q u v k : Nat} (h : ub_bp L pr qu k) (hk : k ≤ q) (hu : u < 12) :
    ub_bp L (upd pr v (nI u)) (upd qu q (nI v)) k := by
  intro i u' v' hi hq hu' hv' hL
  rw [pk_un (by omega)] at hq
  by_cases e : v' = v
  · subst e
    rw [pk_us]
    exact ub_m1 (by omega)
  · rw [pk_un e]
    exact h i u' v' hi hq hu' hv' hL
theorem ub_bf_end {L : Nat → Nat} {pr qu : Nat → Int32} {rk : Nat → Nat} {q k : Nat} (h : ub_bf L pr qu rk q) (hp : ub_bp L pr qu k) (hk : q ≤ k) : ub_sr L pr rk := by
  have hq := ub_bf_q h
  obtain ⟨h1, h2, h3, h4, h5⟩ := h
  refine ⟨h5, ?_, h4, fun v hv hp => by have := (h3 v hv hp).1; omega⟩
  intro u v hu hv hpu hL
  obtain ⟨a, b⟩ := h3 u hu hpu
  exact hp (rk u) u v (by omega) b hu hv hL
section
variable {fn fc fs : Int32} {aF aR aT aB aU aX aW : Nat → Int32} {L : Nat → Nat}
theorem ub_se55 {post : SX → Prop} {J : Int32 → Int32 → (Nat → Int32) → (Nat → Int32) → (Nat → Int32) → (Nat → Int32) → (Nat → Int32) → (Nat → Int32) → (Nat → Int32) → (Nat → Int32) → (Nat → Int32) → (Nat → Int32) → Prop}
    {k u : Nat} (hk : k < 12) (hu : u < 12) (hL : ∀ j, j < 144 → L j < 2 ^ 31)
    (K : ∀ q pr qu rk, k < q → ub_bf L pr qu rk q → ub_bp L pr qu (k + 1) → J (nI q) (nI (k + 1)) aF aR aT aB aU aX aW (ub_l L) pr qu) :
    ∀ d j q pr qu rk N, j + d = 12 → k < q → ub_bf L pr qu rk q → ub_bp L pr qu k → qu k = nI u → (∀ v, v < j → 0 < L (12 * u + v) → ¬ pr v = -1) → d < N →
      wX_search_55 post J (nI k) fn fc fs N (nI q) (nI j) aF aR aT aB aU aX aW (ub_l L) pr qu := by
  intro d
  induction d with
  | zero =>
    intro j q pr qu rk N hj hkq hb hp hqk hv hN
    obtain ⟨N, rfl⟩ : ∃ M, N = M + 1 := ⟨N - 1, by omega⟩
    refine pk_le 12 j (fun _ => nm_r (nI_1 k) (K q pr qu rk hkq hb ?_)) (fun h => by omega)
    intro i u' v hi hq hu' hv' hL'
    by_cases e : i = k
    · subst e
      have e2 : u' = u := (nI_eq (by omega) (by omega)).mp (hq.symm.trans hqk)
      subst e2
      exact hv v (by omega) hL'
    · exact hp i u' v (by omega) hq hu' hv' hL'
  | succ d ih =>
    intro j q pr qu rk N hj hkq hb hp hqk hv hN
    obtain ⟨N, rfl⟩ : ∃ M, N = M + 1 := ⟨N - 1, by omega⟩
    have e1 : (nI j).toNatClampNeg = j := nI_clamp (by omega)
    have e2 : (nI k).toNatClampNeg = k := nI_clamp (by omega)
    have e3 : (nI (12 * u + j)).toNatClampNeg = 12 * u + j := nI_clamp (by omega)
    refine pk_le 12 j (fun h => by omega) (fun _ => ⟨vp_in_nI (by omega) (by omega), ?_⟩)
    rw [e1, e2, hqk, ub_ix, e3]
    refine br_c (fun hpj => ⟨vp_in_nI (by omega) (by omega), vp_in_nI (by omega) (by omega), ?_⟩) (fun hpj => nm_r (nI_1 j) ?_)
    · refine pk_le (L (12 * u + j)) 0 (fun h => nm_r (nI_1 j) ?_) (fun h => ⟨vp_in_nI (by omega) (by omega), vp_in_nI (by omega) (by omega), ?_⟩) rfl rfl (hL _ (by omega))
      · refine ih (j + 1) q pr qu rk N (by omega) hkq hb hp hqk (fun v hv2 hl => ?_) (by omega)
        by_cases e : v = j
        · subst e; omega
        · exact hv v (by omega) hl
      · obtain ⟨u2, a2, b2, c2⟩ := hb.2.1 k hkq
        have e5 : u2 = u := (nI_eq (by omega) (by omega)).mp (b2.symm.trans hqk)
        subst e5
        obtain ⟨hq, hb'⟩ := ub_bf_add hb hu (show j < 12 by omega) c2 hpj h
        refine nm_e ⟨vp_in_nI (by omega) (by omega), ?_⟩
        rw [nI_clamp (show q < 2 ^ 31 by omega)]
        refine nm_e (nm_r (nI_1 q) (nm_r (nI_1 j) ?_))
        refine ih (j + 1) (q + 1) _ _ (ub_u rk j q) N (by omega) (by omega) hb' (ub_bp_add hp (by omega) hu) (by rw [pk_un (by omega)]; exact hqk) (fun v hv2 hl => ?_) (by omega)
        by_cases e : v = j
        · subst e
          rw [pk_us]
          exact ub_m1 (by omega)
        · rw [pk_un e]
          exact hv v (by omega) hl
    · refine ih (j + 1) q pr qu rk N (by omega) hkq hb hp hqk (fun v hv2 hl => ?_) (by omega)
      by_cases e : v = j
      · subst e; exact hpj
      · exact hv v (by omega) hl
theorem ub_se42 {post : SX → Prop} (hL : ∀ j, j < 144 → L j < 2 ^ 31)
    (K : ∀ pr qu rk, ub_sr L pr rk → post (fn, fc, fs, aF, aR, aT, aB, aU, aX, aW, ub_l L, pr, qu)) :
    ∀ d k q pr qu rk N, k + d = 12 → k ≤ q → ub_bf L pr qu rk q → ub_bp L pr qu k → d < N →
      wX_search_42 post fn fc fs N (nI q) (nI k) aF aR aT aB aU aX aW (ub_l L) pr qu := by
  intro d
  induction d with
  | zero =>
    intro k q pr qu rk N hk hkq hb hp hN
    obtain ⟨N, rfl⟩ : ∃ M, N = M + 1 := ⟨N - 1, by omega⟩
    have hq := ub_bf_q hb
    exact pk_le 12 k (fun _ => K pr qu rk (ub_bf_end hb hp (by omega))) (fun h => by omega)
  | succ d ih =>
    intro k q pr qu rk N hk hkq hb hp hN
    obtain ⟨N, rfl⟩ : ∃ M, N = M + 1 := ⟨N - 1, by omega⟩
    have hq := ub_bf_q hb
    refine pk_le 12 k (fun h => by omega) (fun _ => pk_le q k (fun h => K pr qu rk (ub_bf_end hb hp h)) (fun h => ⟨13, ?_⟩))
    obtain ⟨u, hu, hqk, _⟩ := hb.2.1 k h
    exact ub_se55 (by omega) hu hL (fun q' pr' qu' rk' a b c => ih (k + 1) q' pr' qu' rk' N (by omega) (by omega) b c (by omega)) 12 0 q pr qu rk 13 rfl h hb hp hqk (fun v hv => by omega) (by omega)
theorem ub_se2 {post : SX → Prop} {qu : Nat → Int32} (hL : ∀ j, j < 144 → L j < 2 ^ 31)
    (K : ∀ pr qu rk, ub_sr L pr rk → post (fn, fc, fs, aF, aR, aT, aB, aU, aX, aW, ub_l L, pr, qu)) :
    ∀ d i pr N, i + d = 12 → (∀ j, j < i → pr j = -1) → d < N → wX_search_2 post fn fc fs N (nI i) aF aR aT aB aU aX aW (ub_l L) pr qu := by
  intro d
  induction d with
  | zero =>
    intro i pr N hi hp hN
    obtain ⟨N, rfl⟩ : ∃ M, N = M + 1 := ⟨N - 1, by omega⟩
    refine pk_le 12 i (fun _ => nm_e (nm_e ⟨13, ?_⟩)) (fun h => by omega)
    have hup : ∀ j, j < 12 → (¬ upd pr 10 10 j = -1 ↔ j = 10) := by
      intro j hj
      by_cases e : j = 10
      · subst e
        rw [pk_us]
        exact ⟨fun _ => rfl, fun _ => by decide⟩
      · rw [pk_un e]
        exact ⟨fun z => absurd (hp j (by omega)) z, fun z => absurd z e⟩
    refine ub_se42 hL K 12 0 1 (upd pr 10 10) (upd qu 0 10) (fun _ => 0) 13 rfl (by omega) ⟨?_, ?_, ?_, ?_, ?_⟩ (fun i u v hi => by omega) (by omega)
    · have := ub_s_upd (f := fun j => if pr j = -1 then 0 else 1) (g := fun j => if upd pr 10 10 j = -1 then 0 else 1) (i := 10) 12 (by omega)
        (fun j _ ne => by (try dsimp only); rw [pk_un ne])
      try dsimp only at this
      rw [pk_us, if_pos (hp 10 (by omega)), if_neg (by decide), ub_s_0 (f := fun j => if pr j = -1 then 0 else 1) 12 (fun j hj => if_pos (hp j (by omega)))] at this
      omega
    · intro i hi
      refine ⟨10, by omega, ?_, (hup 10 (by omega)).mpr rfl⟩
      rw [show i = 0 by omega, pk_us]
      rfl
    · intro v hv hpv
      have := (hup v hv).mp hpv
      subst this
      refine ⟨Nat.zero_lt_one, ?_⟩
      rw [pk_us]
      rfl
    · intro v hv h10 hpv
      exact absurd ((hup v hv).mp hpv) h10
    · exact (hup 10 (by omega)).mpr rfl
  | succ d ih =>
    intro i pr N hi hp hN
    obtain ⟨N, rfl⟩ : ∃ M, N = M + 1 := ⟨N - 1, by omega⟩
    refine pk_le 12 i (fun h => by omega) (fun _ => ⟨vp_in_nI (by omega) (by omega), ?_⟩)
    rw [nI_clamp (show i < 2 ^ 31 by omega)]
    refine nm_e (nm_r (nI_1 i) (ih (i + 1) _ N (by omega) (fun j hj => ?_) (by omega)))
    by_cases e : j = i
    · subst e; exact pk_us
    · rw [pk_un e]; exact hp j (by omega)
theorem ub_search {post : SX → Prop} {pr qu : Nat → Int32} (hL : ∀ j, j < 144 → L j < 2 ^ 31)
    (K : ∀ pr qu rk, ub_sr L pr rk → post (fn, fc, fs, aF, aR, aT, aB, aU, aX, aW, ub_l L, pr, qu)) :
    wpX_search post (fn, fc, fs, aF, aR, aT, aB, aU, aX, aW, ub_l L, pr, qu) :=
  ⟨13, ub_se2 hL K 12 0 pr 13 rfl (fun j hj => by omega) (by omega)⟩
end
end
section
/-! X's push along the tree -/
theorem ub_wsub {L : Nat → Nat} {k a : Nat} (h : a ≤ L k) : upd (ub_l L) k (ub_l L k - nI a) = ub_l (ub_u L k (L k - a)) := by
  show upd (ub_l L) k (nI (L k) - nI a) = _
  rw [pk_sub h, ub_lu]
theorem ub_wadd {L : Nat → Nat} {k a : Nat} : upd (ub_l L) k (ub_l L k + nI a) = ub_l (ub_u L k (L k + a)) := by
  show upd (ub_l L) k (nI (L k) + nI a) = _
  rw [nI_add, ub_lu]
/-- from v the parents lead to the source in at most m steps, each with room a -/
def ub_gd (L : Nat → Nat) (pr : Nat → Int32) (rk : Nat → Nat) (a : Nat) : Nat → Nat → Prop
  | 0, v => v = 10
  | m + 1, v => v = 10 ∨ ∃ p, p < 12 ∧ pr v = nI p ∧ rk p < rk v ∧ a ≤ L (12 * p + v) ∧ ub_gd L pr rk a m p
theorem ub_gd_mono {L M : Nat → Nat} {pr : Nat → Int32} {rk : Nat → Nat} {a R : Nat} (h : ∀ u x, u < 12 → x < 12 → rk x < R → L (12 * u + x) ≤ M (12 * u + x)) :
    ∀ m v, v < 12 → rk v < R → ub_gd L pr rk a m v → ub_gd M pr rk a m v := by
  intro m
  induction m with
  | zero => intro v _ _ g; exact g
  | succ m ih =>
    intro v hv hR g
    rcases g with g | ⟨p, hp, hpr, hr, ha, g⟩
    · exact Or.inl g
    · exact Or.inr ⟨p, hp, hpr, hr, Nat.le_trans ha (h p v hp hv hR), ih p hp (by omega) g⟩
section
variable {fn fc fs : Int32} {aF aR aT aB aU aX aW pr qu : Nat → Int32} {rk : Nat → Nat}
theorem ub_p69 {post : Int32 → SX → Prop} {a : Nat} {L0 : Nat → Nat} (ha : a ≤ 100000)
    (K : ∀ L : Nat → Nat, (∀ k, k < 144 → L k ≤ L0 k + 12 * a) → (∀ b : Nat → Bool, b 10 = false → b 11 = true → ub_cv b L + a = ub_cv b L0) →
      post (nI a) (fn, fc, fs, aF, aR, aT, aB, aU, aX, aW, ub_l L, pr, qu)) :
    ∀ m i v L N, i + m = 12 → v < 12 → ub_gd L pr rk a m v → (∀ k, k < 144 → L k ≤ L0 k + i * a) →
      (∀ b : Nat → Bool, b 11 = true → ub_cv b L + (if b v = true then 0 else a) = ub_cv b L0) → m < N →
      wX_push_69 post (nI a) fn fc fs N (nI v) (nI i) aF aR aT aB aU aX aW (ub_l L) pr qu := by
  have KK : ∀ (i : Nat) (L : Nat → Nat), i ≤ 12 → (∀ k, k < 144 → L k ≤ L0 k + i * a) → (∀ b : Nat → Bool, b 11 = true → ub_cv b L + (if b 10 = true then 0 else a) = ub_cv b L0) →
      post (nI a) (fn, fc, fs, aF, aR, aT, aB, aU, aX, aW, ub_l L, pr, qu) := by
    intro i L hi h1 h2
    refine K L (fun k hk => ?_) (fun b hb h11 => ?_)
    · have h3 := h1 k hk
      have h4 := Nat.mul_le_mul_right a hi
      omega
    · have h3 := h2 b h11
      rw [hb] at h3
      exact h3
  intro m
  induction m with
  | zero =>
    intro i v L N hi hv hg hb hc hN
    obtain ⟨N, rfl⟩ : ∃ M, N = M + 1 := ⟨N - 1, by omega⟩
    have hv10 : v = 10 := hg
    subst hv10
    exact pk_le 12 i (fun _ => KK i L (by omega) hb hc) (fun h => by omega)
  | succ m ih =>
    intro i v L N hi hv hg hb hc hN
    obtain ⟨N, rfl⟩ : ∃ M, N = M + 1 := ⟨N - 1, by omega⟩
    refine pk_le 12 i (fun h => by omega) (fun _ => pk_eq v 10 (fun e => ?_) (fun ne => ?_))
    · subst e
      exact KK i L (by omega) hb hc
    · rcases hg with hg | ⟨p, hp, hpr, hr, hle, hg⟩
      · exact absurd hg ne
      have e1 : (nI v).toNatClampNeg = v := nI_clamp (by omega)
      have e2 : (nI (12 * p + v)).toNatClampNeg = 12 * p + v := nI_clamp (by omega)
      have e3 : (nI (12 * v + p)).toNatClampNeg = 12 * v + p := nI_clamp (by omega)
      have i1 : vp_in (nI v) 12 := vp_in_nI (by omega) (by omega)
      have i2 : vp_in (nI (12 * p + v)) 144 := vp_in_nI (by omega) (by omega)
      have i3 : vp_in (nI (12 * v + p)) 144 := vp_in_nI (by omega) (by omega)
      rw [e1, hpr, ub_ix p v, ub_ix v p, e2, e3]
      refine ⟨i1, i2, i2, nm_r (ub_wsub hle) ⟨i1, i3, i3, nm_r ub_wadd ⟨i1, nm_e (nm_r (nI_1 i) ?_)⟩⟩⟩
      refine ih (i + 1) p _ N (by omega) hp ?_ ?_ ?_ (by omega)
      · refine ub_gd_mono (R := rk v) (fun u x hu hx hrx => ?_) m p hp hr hg
        have hxv : x ≠ v := fun z => by rw [z] at hrx; omega
        have hne : 12 * u + x ≠ 12 * p + v := by omega
        by_cases e : 12 * u + x = 12 * v + p
        · rw [e, ub_us, ← e, ub_un hne]
          omega
        · rw [ub_un e, ub_un hne]
          exact Nat.le_refl _
      · intro k hk
        have h1 := hb k hk
        rw [show (i + 1) * a = i * a + a from Nat.succ_mul i a]
        have h2 : ub_u L (12 * p + v) (L (12 * p + v) - a) k ≤ L k := by
          by_cases e : k = 12 * p + v
          · rw [e, ub_us]; omega
          · rw [ub_un e]; exact Nat.le_refl _
        by_cases e : k = 12 * v + p
        · rw [e, ub_us, ← e]
          omega
        · rw [ub_un e]
          omega
      · intro b h11
        rw [ub_cv_step b L hp hv hle]
        exact hc b h11
theorem ub_p8 {post : Int32 → SX → Prop} {L : Nat → Nat} (hs : ub_sr L pr rk) (hL : ∀ j, j < 144 → L j < 2 ^ 31)
    (E : ∀ a, 1 ≤ a → a ≤ 100000 → ub_gd L pr rk a 12 11 → ∃ n69, wX_push_69 post (nI a) fn fc fs n69 11 0 aF aR aT aB aU aX aW (ub_l L) pr qu) :
    ∀ d i v a N, i + d = 12 → v < 12 → ¬ pr v = -1 → rk v + i < 12 → 1 ≤ a → a ≤ 100000 →
      (∀ a', 1 ≤ a' → a' ≤ a → ub_gd L pr rk a' d v → ub_gd L pr rk a' 12 11) → d < N →
      wX_push_8 post fn fc fs aF aR aT aB aU aX aW (ub_l L) pr qu N (nI a) (nI v) (nI i) := by
  intro d
  induction d with
  | zero => intro i v a N hi _ _ hr; omega
  | succ d ih =>
    intro i v a N hi hv hpv hr h1 ha hg hN
    obtain ⟨N, rfl⟩ : ∃ M, N = M + 1 := ⟨N - 1, by omega⟩
    refine pk_le 12 i (fun h => by omega) (fun _ => pk_eq v 10 (fun e => ?_) (fun ne => ?_))
    · exact E a h1 ha (hg a h1 (Nat.le_refl _) (Or.inl e))
    · obtain ⟨p, hp, hpr, hpp, hrk, hl⟩ := hs.2.2.1 v hv ne hpv
      have e1 : (nI v).toNatClampNeg = v := nI_clamp (by omega)
      have e2 : (nI (12 * p + v)).toNatClampNeg = 12 * p + v := nI_clamp (by omega)
      have i1 : vp_in (nI v) 12 := vp_in_nI (by omega) (by omega)
      have i2 : vp_in (nI (12 * p + v)) 144 := vp_in_nI (by omega) (by omega)
      have hl2 := hL (12 * p + v) (by omega)
      rw [e1, hpr, ub_ix p v, e2]
      refine ⟨i1, i2, nm_e (pk_le a (L (12 * p + v)) (fun h => ⟨i1, ?_⟩) (fun h => ⟨i1, ?_⟩))⟩
      · rw [e1, hpr]
        refine nm_e (nm_r (nI_1 i) (ih (i + 1) p a N (by omega) hp hpp (by omega) h1 ha (fun a' b1 b2 g => ?_) (by omega)))
        exact hg a' b1 b2 (Or.inr ⟨p, hp, hpr, hrk, by omega, g⟩)
      · rw [e1, hpr]
        refine nm_e (nm_r (nI_1 i) (ih (i + 1) p (L (12 * p + v)) N (by omega) hp hpp (by omega) hl (by omega) (fun a' b1 b2 g => ?_) (by omega)))
        exact hg a' b1 (by omega) (Or.inr ⟨p, hp, hpr, hrk, by omega, g⟩)
theorem ub_push {post : Int32 → SX → Prop} {L : Nat → Nat} (hs : ub_sr L pr rk) (hL : ∀ j, j < 144 → L j < 2 ^ 31) (h11 : ¬ pr 11 = -1)
    (K : ∀ (a : Nat) (M : Nat → Nat), 1 ≤ a → (∀ k, k < 144 → M k ≤ L k + 12 * a) → (∀ b : Nat → Bool, b 10 = false → b 11 = true → ub_cv b M + a = ub_cv b L) →
      post (nI a) (fn, fc, fs, aF, aR, aT, aB, aU, aX, aW, ub_l M, pr, qu)) :
    wpX_push post (fn, fc, fs, aF, aR, aT, aB, aU, aX, aW, ub_l L, pr, qu) := by
  refine ⟨13, ub_p8 hs hL (fun a h1 ha hg => ⟨13, ?_⟩) 12 0 11 100000 13 rfl (by omega) h11 (by have := hs.2.2.2 11 (by omega) h11; omega) (by omega) (Nat.le_refl _) (fun a' _ _ g => g) (by omega)⟩
  refine ub_p69 ha (fun M hm hc => K a M h1 hm hc) 12 0 11 L 13 rfl (by omega) hg (fun k hk => by omega) (fun b hb => ?_) (by omega)
  rw [hb]
  rfl
end
end
section
/-! X's network and its rounds -/
/-- the network's cells for the values below i stand -/
def ub_bi (w F : Nat → Nat) (L : Nat → Nat) (i : Nat) : Prop :=
  (∀ b : Nat → Bool, b 10 = false → b 11 = true → ub_cv b L = ub_s (ub_cp w F b) i) ∧ (∀ k, k < 144 → L k ≤ 100000)
    ∧ ∀ j, i ≤ j → j < 10 → L (120 + j) = 0 ∧ L (12 * j + 11) = 0
theorem ub_bi_step {w F L : Nat → Nat} {i z0 z1 : Nat} (h : ub_bi w F L i) (hi : i < 10) (hF : ∀ j, F j ≤ 60)
    (e0 : z0 = if w i = 0 then 100000 else F (2 * i + 1)) (e1 : z1 = if w i = 1 then 100000 else F (2 * i)) :
    ub_bi w F (ub_u (ub_u L (120 + i) z0) (12 * i + 11) z1) (i + 1) := by
  obtain ⟨h1, h2, h3⟩ := h
  have b0 : z0 ≤ 100000 := by
    rw [e0]
    split
    · omega
    · have := hF (2 * i + 1); omega
  have b1 : z1 ≤ 100000 := by
    rw [e1]
    split
    · omega
    · have := hF (2 * i); omega
  refine ⟨?_, ?_, ?_⟩
  · intro b hb hb'
    have s1 := ub_cv_u b L (i := 120 + i) z0 (by omega)
    have s2 := ub_cv_u b (ub_u L (120 + i) z0) (i := 12 * i + 11) z1 (by omega)
    have x1 : ub_x b (120 + i) = b i := by
      have := ub_x_at b 10 (v := i) (by omega)
      rw [hb] at this
      exact this
    have x2 : ub_x b (12 * i + 11) = !b i := by
      have := ub_x_at b i (v := 11) (by omega)
      rw [hb', Bool.and_true] at this
      exact this
    rw [x1, (h3 i (by omega) hi).1, h1 b hb hb'] at s1
    rw [x2, ub_un (by omega), (h3 i (by omega) hi).2] at s2
    show _ = ub_s (ub_cp w F b) i + ub_cp w F b i
    have e3 : ub_cp w F b i = if b i = true then z0 else z1 := by
      unfold ub_cp
      rw [← e0, ← e1]
    rw [e3]
    cases hbi : b i
    · rw [hbi] at s1 s2
      simp at s1 s2 ⊢
      omega
    · rw [hbi] at s1 s2
      simp at s1 s2 ⊢
      omega
  · intro k hk
    by_cases e : k = 12 * i + 11
    · rw [e, ub_us]; exact b1
    · rw [ub_un e]
      by_cases e' : k = 120 + i
      · rw [e', ub_us]; exact b0
      · rw [ub_un e']; exact h2 k hk
  · intro j hj hj'
    obtain ⟨a, b⟩ := h3 j (by omega) hj'
    rw [ub_un (by omega), ub_un (by omega), ub_un (by omega), ub_un (by omega)]
    exact ⟨a, b⟩
/-- and those of the flows below f -/
def ub_bg (n : Nat) (w F fr to bx ux : Nat → Nat) (sk : Int32) (L : Nat → Nat) (f : Nat) : Prop :=
  (∀ b : Nat → Bool, b 10 = false → b 11 = true → ub_cv b L = ub_s (ub_cp w F b) n + ub_s (ub_fc fr to bx ux sk b) f) ∧ ∀ k, k < 144 → L k ≤ 100000 + 60 * f
theorem ub_bg_skip {n : Nat} {w F fr to bx ux L : Nat → Nat} {sk : Int32} {f : Nat} (h : ub_bg n w F fr to bx ux sk L f) (e : nI f = sk) : ub_bg n w F fr to bx ux sk L (f + 1) := by
  refine ⟨fun b h0 h1 => ?_, fun k hk => by have := h.2 k hk; omega⟩
  show _ = _ + (ub_s (ub_fc fr to bx ux sk b) f + ub_fc fr to bx ux sk b f)
  rw [h.1 b h0 h1]
  unfold ub_fc
  rw [if_pos e]
  rfl
theorem ub_bg_step {n : Nat} {w F fr to bx ux L : Nat → Nat} {sk : Int32} {f : Nat} (h : ub_bg n w F fr to bx ux sk L f) (hn : n ≤ 10) (hf : ∀ j, fr j < n) (ht : ∀ j, to j < n)
    (hb : ∀ j, bx j ≤ 30) (hu : ∀ j, ux j ≤ 30) (e : ¬ nI f = sk) {M : Nat → Nat} (hM : M = ub_u L (12 * fr f + to f) (L (12 * fr f + to f) + bx f)) :
    ub_bg n w F fr to bx ux sk (ub_u M (12 * to f + fr f) (M (12 * to f + fr f) + ux f)) (f + 1) := by
  have h1 := hf f
  have h2 := ht f
  have h3 := hb f
  have h4 := hu f
  refine ⟨fun b h0 h11 => ?_, fun k hk => ?_⟩
  · have s1 := ub_cv_u b L (i := 12 * fr f + to f) (L (12 * fr f + to f) + bx f) (by omega)
    rw [← hM] at s1
    have s2 := ub_cv_u b M (i := 12 * to f + fr f) (M (12 * to f + fr f) + ux f) (by omega)
    rw [ub_x_at b (fr f) (by omega), h.1 b h0 h11] at s1
    rw [ub_x_at b (to f) (by omega)] at s2
    show _ = _ + (ub_s (ub_fc fr to bx ux sk b) f + ub_fc fr to bx ux sk b f)
    have e2 : ub_fc fr to bx ux sk b f = if b (fr f) = b (to f) then 0 else if b (fr f) = false then bx f else ux f := if_neg e
    rw [e2]
    cases hp : b (fr f) <;> cases hq : b (to f) <;> rw [hp, hq] at s1 s2 <;> simp at s1 s2 ⊢ <;> omega
  · have g : ∀ k, k < 144 → M k ≤ L k + 30 := by
      intro k hk
      rw [hM]
      by_cases z : k = 12 * fr f + to f
      · rw [z, ub_us]; omega
      · rw [ub_un z]; omega
    have g1 := g k hk
    have g2 := h.2 k hk
    by_cases z : k = 12 * to f + fr f
    · rw [z, ub_us, ← z]; omega
    · rw [ub_un z]; omega
/-- the rounds: a flow of size t -/
def ub_ri (n c : Nat) (F fr to bx ux w : Nat → Nat) (sk : Int32) (L : Nat → Nat) (t : Nat) : Prop :=
  (∀ b : Nat → Bool, b 10 = false → b 11 = true → ub_cv b L + t = ub_net n c F fr to bx ux w sk b) ∧ ∀ k, k < 144 → L k ≤ 101200 + 12 * t
theorem ub_ri_t {n c : Nat} {F fr to bx ux w L : Nat → Nat} {sk : Int32} {t : Nat} (ok : ub_ok n c F fr to bx ux) (h : ub_ri n c F fr to bx ux w sk L t) : t ≤ 1200 := by
  have h1 := h.1 (ub_b0 w) rfl rfl
  have h2 := ub_b0_net (w := w) (sk := sk) ok
  omega
theorem ub_ri_end {n c : Nat} {F fr to bx ux w L : Nat → Nat} {sk : Int32} {t : Nat} {pr : Nat → Int32} {rk : Nat → Nat} (ok : ub_ok n c F fr to bx ux) (h : ub_ri n c F fr to bx ux w sk L t)
    (hs : ub_sr L pr rk) (e : pr 11 = -1) : ub_mf n c F fr to bx ux w sk L t := by
  have ht := ub_ri_t ok h
  refine ⟨fun k hk => by have := h.2 k hk; omega, h.1, fun v => decide (pr v = -1), decide_eq_false hs.1, decide_eq_true e, ub_cl_cv ?_⟩
  intro u v hu hv h3 h4
  have h3' := of_decide_eq_false h3
  have h4' := of_decide_eq_true h4
  apply Classical.byContradiction
  intro z
  exact hs.2.1 u v hu hv h3' (by omega) h4'
section
variable {n c : Nat} {F fr to bx ux w : Nat → Nat} {sk : Int32} {aX : Nat → Int32}
theorem ub_so196 {post : Int32 → SX → Prop} (ok : ub_ok n c F fr to bx ux)
    (K : ∀ t L pr qu, ub_mf n c F fr to bx ux w sk L t → post (nI t) (nI n, nI c, sk, ub_l F, ub_l fr, ub_l to, ub_l bx, ub_l ux, aX, ub_l w, ub_l L, pr, qu)) :
    ∀ d r t L pr qu N, r + d = 2000 → r ≤ t → ub_ri n c F fr to bx ux w sk L t → d < N →
      wX_solve_196 post N (nI t) (nI r) (nI n) (nI c) sk (ub_l F) (ub_l fr) (ub_l to) (ub_l bx) (ub_l ux) aX (ub_l w) (ub_l L) pr qu := by
  intro d
  induction d with
  | zero =>
    intro r t L pr qu N hr hrt h hN
    have := ub_ri_t ok h
    omega
  | succ d ih =>
    intro r t L pr qu N hr hrt h hN
    have ht := ub_ri_t ok h
    obtain ⟨N, rfl⟩ : ∃ M, N = M + 1 := ⟨N - 1, by omega⟩
    have hL : ∀ j, j < 144 → L j < 2 ^ 31 := fun j hj => by have := h.2 j hj; omega
    refine pk_le 2000 r (fun h => by omega) (fun _ => ub_search hL (fun pr qu rk hs => ?_))
    refine br_c (fun e => K t L pr qu (ub_ri_end ok h hs e)) (fun ne => ub_push hs hL ne (fun a M h1 hm hc => ?_))
    refine nm_r (nI_add t a) (nm_r (nI_1 r) (ih (r + 1) (t + a) M pr qu N (by omega) (by omega) ⟨fun b h0 h11 => ?_, fun k hk => ?_⟩ (by omega)))
    · have h2 := hc b h0 h11
      have h3 := h.1 b h0 h11
      omega
    · have h2 := hm k hk
      have h3 := h.2 k hk
      omega
theorem ub_so110 {post : Int32 → SX → Prop} {pr qu : Nat → Int32} (ok : ub_ok n c F fr to bx ux)
    (K : ∀ t L pr qu, ub_mf n c F fr to bx ux w sk L t → post (nI t) (nI n, nI c, sk, ub_l F, ub_l fr, ub_l to, ub_l bx, ub_l ux, aX, ub_l w, ub_l L, pr, qu)) :
    ∀ d f L N, f + d = c → ub_bg n w F fr to bx ux sk L f → d < N →
      wX_solve_110 post (nI n) (nI c) sk N (nI f) (ub_l F) (ub_l fr) (ub_l to) (ub_l bx) (ub_l ux) aX (ub_l w) (ub_l L) pr qu := by
  have hn := ok.2.1
  have hc := ok.2.2.1
  intro d
  induction d with
  | zero =>
    intro f L N hf h hN
    obtain ⟨N, rfl⟩ : ∃ M, N = M + 1 := ⟨N - 1, by omega⟩
    refine pk_le c f (fun _ => ⟨2001, ub_so196 ok K 2000 0 0 L pr qu 2001 rfl (by omega) ⟨fun b h0 h11 => ?_, fun k hk => ?_⟩ (by omega)⟩) (fun h => by omega)
    · rw [h.1 b h0 h11, show f = c by omega]
      rfl
    · have := h.2 k hk
      omega
  | succ d ih =>
    intro f L N hf h hN
    obtain ⟨N, rfl⟩ : ∃ M, N = M + 1 := ⟨N - 1, by omega⟩
    obtain ⟨_, _, _, _, hfr, hto, hbx, hux⟩ := ok
    have r1 := hfr f
    have r2 := hto f
    refine pk_le c f (fun h => by omega) (fun _ => br_c (fun e => nm_r (nI_1 f) (ih (f + 1) L N (by omega) (ub_bg_skip h e) (by omega))) (fun ne => ?_))
    rw [ub_rd fr (show f < 2 ^ 31 by omega), ub_rd to (show f < 2 ^ 31 by omega), ub_rd bx (show f < 2 ^ 31 by omega), ub_rd ux (show f < 2 ^ 31 by omega), ub_ix, ub_ix,
      nI_clamp (show 12 * fr f + to f < 2 ^ 31 by omega), nI_clamp (show 12 * to f + fr f < 2 ^ 31 by omega)]
    have i1 : vp_in (nI f) 20 := vp_in_nI (by omega) (by omega)
    have i2 : vp_in (nI (12 * fr f + to f)) 144 := vp_in_nI (by omega) (by omega)
    have i3 : vp_in (nI (12 * to f + fr f)) 144 := vp_in_nI (by omega) (by omega)
    refine ⟨i1, i1, i2, i1, i2, nm_r ub_wadd ⟨i1, i1, i3, i1, i3, nm_r ub_wadd (nm_r (nI_1 f) ?_)⟩⟩
    exact ih (f + 1) _ N (by omega) (ub_bg_step h hn hfr hto hbx hux ne rfl) (by omega)
theorem ub_so64 {post : Int32 → SX → Prop} {J : Int32 → (Nat → Int32) → (Nat → Int32) → (Nat → Int32) → (Nat → Int32) → (Nat → Int32) → (Nat → Int32) → (Nat → Int32) → (Nat → Int32) → (Nat → Int32) → (Nat → Int32) → Prop}
    {fn fc fs : Int32} {aR aT aB aU pr qu : Nat → Int32} {L : Nat → Nat} {i z0 : Nat} (hi : i < 10) (hw : w i ≤ 2)
    (K : ∀ z1, z1 = (if w i = 1 then 100000 else F (2 * i)) → J (nI (i + 1)) (ub_l F) aR aT aB aU aX (ub_l w) (ub_l (ub_u (ub_u L (120 + i) z0) (12 * i + 11) z1)) pr qu) :
    wX_solve_64 post J (nI i) (nI z0) (nI (120 + i)) fn fc fs (ub_l F) aR aT aB aU aX (ub_l w) (ub_l L) pr qu := by
  refine ⟨vp_in_nI (by omega) (by omega), nm_r (ub_wr L z0 (by omega)) ⟨vp_in_nI (by omega) (by omega), ?_⟩⟩
  have e1 : (12 : Int32) * nI i + 11 = nI (12 * i + 11) := ub_ix i 11
  have e2 : (2 : Int32) * nI i + 0 = nI (2 * i) := ub_ix2 i 0
  rw [ub_rd w (show i < 2 ^ 31 by omega), e1, e2, ub_rd F (show 2 * i < 2 ^ 31 by omega)]
  refine pk_eq (w i) 1 (fun h => ⟨vp_in_nI (by omega) (by omega), nm_r (ub_wr _ 100000 (by omega)) (nm_r (nI_1 i) (K 100000 (if_pos h).symm))⟩)
    (fun h => ⟨vp_in_nI (by omega) (by omega), vp_in_nI (by omega) (by omega), nm_r (ub_wr _ (F (2 * i)) (by omega)) (nm_r (nI_1 i) (K _ (if_neg h).symm))⟩)
theorem ub_so24 {post : Int32 → SX → Prop} {pr qu : Nat → Int32} (ok : ub_ok n c F fr to bx ux) (hw : ∀ j, j < n → w j ≤ 2)
    (K : ∀ t L pr qu, ub_mf n c F fr to bx ux w sk L t → post (nI t) (nI n, nI c, sk, ub_l F, ub_l fr, ub_l to, ub_l bx, ub_l ux, aX, ub_l w, ub_l L, pr, qu)) :
    ∀ d i L N, i + d = n → ub_bi w F L i → d < N →
      wX_solve_24 post (nI n) (nI c) sk N (nI i) (ub_l F) (ub_l fr) (ub_l to) (ub_l bx) (ub_l ux) aX (ub_l w) (ub_l L) pr qu := by
  have hn := ok.2.1
  intro d
  induction d with
  | zero =>
    intro i L N hi h hN
    obtain ⟨N, rfl⟩ : ∃ M, N = M + 1 := ⟨N - 1, by omega⟩
    refine pk_le n i (fun _ => ⟨c + 1, ub_so110 ok K c 0 L (c + 1) (by omega) ⟨fun b h0 h11 => ?_, fun k hk => ?_⟩ (by omega)⟩) (fun h => by omega)
    · rw [h.1 b h0 h11, show i = n by omega]
      rfl
    · have := h.2.1 k hk
      omega
  | succ d ih =>
    intro i L N hi h hN
    obtain ⟨N, rfl⟩ : ∃ M, N = M + 1 := ⟨N - 1, by omega⟩
    have hwi := hw i (by omega)
    have e1 : (120 : Int32) + nI i = nI (120 + i) := nI_add 120 i
    have e2 : (2 : Int32) * nI i + 1 = nI (2 * i + 1) := ub_ix2 i 1
    refine pk_le n i (fun h => by omega) (fun _ => ⟨vp_in_nI (by omega) (by omega), ?_⟩)
    rw [ub_rd w (show i < 2 ^ 31 by omega), e1, e2, ub_rd F (show 2 * i + 1 < 2 ^ 31 by omega)]
    refine pk_eq (w i) 0 (fun h0 => ?_) (fun h0 => ⟨vp_in_nI (by omega) (by omega), ?_⟩)
    · exact ub_so64 (z0 := 100000) (by omega) hwi (fun z1 e => ih (i + 1) _ N (by omega) (ub_bi_step h (by omega) ok.2.2.2.1 (if_pos h0).symm e) (by omega))
    · exact ub_so64 (z0 := F (2 * i + 1)) (by omega) hwi (fun z1 e => ih (i + 1) _ N (by omega) (ub_bi_step h (by omega) ok.2.2.2.1 (if_neg h0).symm e) (by omega))
theorem ub_so2 {post : Int32 → SX → Prop} {pr qu : Nat → Int32} (ok : ub_ok n c F fr to bx ux) (hw : ∀ j, j < n → w j ≤ 2)
    (K : ∀ t L pr qu, ub_mf n c F fr to bx ux w sk L t → post (nI t) (nI n, nI c, sk, ub_l F, ub_l fr, ub_l to, ub_l bx, ub_l ux, aX, ub_l w, ub_l L, pr, qu)) :
    ∀ d i L N, i + d = 144 → (∀ j, j < i → L j = 0) → d < N →
      wX_solve_2 post (nI n) (nI c) sk N (nI i) (ub_l F) (ub_l fr) (ub_l to) (ub_l bx) (ub_l ux) aX (ub_l w) (ub_l L) pr qu := by
  intro d
  induction d with
  | zero =>
    intro i L N hi h hN
    obtain ⟨N, rfl⟩ : ∃ M, N = M + 1 := ⟨N - 1, by omega⟩
    refine pk_le 144 i (fun _ => ⟨n + 1, ub_so24 ok hw K n 0 L (n + 1) (by omega) ⟨fun b h0 h11 => ?_, fun k hk => ?_, fun j _ hj => ⟨h _ (by omega), h _ (by omega)⟩⟩ (by omega)⟩) (fun h => by omega)
    · exact ub_cv_z b (fun k hk => h k (by omega))
    · rw [h k (by omega)]
      omega
  | succ d ih =>
    intro i L N hi h hN
    obtain ⟨N, rfl⟩ : ∃ M, N = M + 1 := ⟨N - 1, by omega⟩
    refine pk_le 144 i (fun h => by omega) (fun _ => ⟨vp_in_nI (by omega) (by omega), nm_r (ub_wr L 0 (by omega)) (nm_r (nI_1 i) (ih (i + 1) _ N (by omega) (fun j hj => ?_) (by omega)))⟩)
    by_cases e : j = i
    · subst e; exact ub_us
    · rw [ub_un e]; exact h j (by omega)
theorem ub_solve {post : Int32 → SX → Prop} {L : Nat → Nat} {pr qu : Nat → Int32} (ok : ub_ok n c F fr to bx ux) (hw : ∀ j, j < n → w j ≤ 2)
    (K : ∀ t L pr qu, ub_mf n c F fr to bx ux w sk L t → post (nI t) (nI n, nI c, sk, ub_l F, ub_l fr, ub_l to, ub_l bx, ub_l ux, aX, ub_l w, ub_l L, pr, qu)) :
    wpX_solve post (nI n, nI c, sk, ub_l F, ub_l fr, ub_l to, ub_l bx, ub_l ux, aX, ub_l w, ub_l L, pr, qu) :=
  ⟨145, ub_so2 ok hw K 144 0 L 145 rfl (fun j hj => by omega) (by omega)⟩
end
section
variable {n : Nat} {fc fs : Int32} {fx : Nat → Nat} {aF aR aT aB aU aL pr qu : Nat → Int32}
theorem ub_tf2 {post : SX → Prop} (hn : n ≤ 10)
    (K : ∀ w : Nat → Nat, (∀ j, j < n → w j = fx j) → post (nI n, fc, fs, aF, aR, aT, aB, aU, ub_l fx, ub_l w, aL, pr, qu)) :
    ∀ d i w N, i + d = n → (∀ j, j < i → w j = fx j) → d < N → wX_takeFixed_2 post (nI n) fc fs N (nI i) aF aR aT aB aU (ub_l fx) (ub_l w) aL pr qu := by
  intro d
  induction d with
  | zero =>
    intro i w N hi h hN
    obtain ⟨N, rfl⟩ : ∃ M, N = M + 1 := ⟨N - 1, by omega⟩
    exact pk_le n i (fun _ => K w (fun j hj => h j (by omega))) (fun h => by omega)
  | succ d ih =>
    intro i w N hi h hN
    obtain ⟨N, rfl⟩ : ∃ M, N = M + 1 := ⟨N - 1, by omega⟩
    refine pk_le n i (fun h => by omega) (fun _ => ⟨vp_in_nI (by omega) (by omega), vp_in_nI (by omega) (by omega), ?_⟩)
    rw [ub_rd fx (show i < 2 ^ 31 by omega)]
    refine nm_r (ub_wr w (fx i) (by omega)) (nm_r (nI_1 i) (ih (i + 1) _ N (by omega) (fun j hj => ?_) (by omega)))
    by_cases e : j = i
    · subst e; exact ub_us
    · rw [ub_un e]; exact h j (by omega)
theorem ub_take {post : SX → Prop} {w : Nat → Nat} (hn : n ≤ 10)
    (K : ∀ w : Nat → Nat, (∀ j, j < n → w j = fx j) → post (nI n, fc, fs, aF, aR, aT, aB, aU, ub_l fx, ub_l w, aL, pr, qu)) :
    wpX_takeFixed post (nI n, fc, fs, aF, aR, aT, aB, aU, ub_l fx, ub_l w, aL, pr, qu) :=
  ⟨n + 1, ub_tf2 hn K n 0 w (n + 1) (by omega) (fun j hj => by omega) (by omega)⟩
end
end
section
/-! X's two sets: what reaches the sink, what the source doesn't reach -/
def ub_sk (L : Nat → Nat) (R : Nat) : Prop :=
  R < 4096 ∧ R.testBit 11 = true ∧ ∀ b : Nat → Bool, b 11 = true → ub_cl b L → ∀ v, v < 12 → R.testBit v = true → b v = true
def ub_cn (R : Nat) : Nat := ub_s (fun v => (R.testBit v).toNat) 12
def ub_pc (L : Nat → Nat) (R k : Nat) : Prop := ∀ j, j < k → 0 < L j → R.testBit (j % 12) = true → R.testBit (j / 12) = true
def ub_dd (L : Nat → Nat) (R m k : Nat) : Prop := ub_pc L R 144 ∨ m < ub_cn R ∨ (m ≤ ub_cn R ∧ ub_pc L R k)
theorem ub_cn_le (R : Nat) : ub_cn R ≤ 12 := by
  have := ub_s_le (f := fun v => (R.testBit v).toNat) (m := 1) 12 (fun j _ => ub_bl1 _)
  exact this
theorem ub_dd_skip {L : Nat → Nat} {R m k : Nat} (h : ub_dd L R m k) (e : 0 < L k → R.testBit (k % 12) = true → R.testBit (k / 12) = true) : ub_dd L R m (k + 1) := by
  rcases h with h | h | ⟨h, g⟩
  · exact Or.inl h
  · exact Or.inr (Or.inl h)
  · refine Or.inr (Or.inr ⟨h, fun j hj => ?_⟩)
    by_cases z : j = k
    · subst z; exact e
    · exact g j (by omega)
theorem ub_dd_add {L : Nat → Nat} {R m k : Nat} (h : ub_dd L R m k) (s : ub_sk L R) (hk : k < 144) (hl : 0 < L k) (hb : R.testBit (k % 12) = true) :
    ub_sk L (R ||| 2 ^ (k / 12)) ∧ ub_dd L (R ||| 2 ^ (k / 12)) m (k + 1) := by
  have hq : k / 12 < 12 := by omega
  have hbit : ∀ v, (R ||| 2 ^ (k / 12)).testBit v = (R.testBit v || decide (k / 12 = v)) := by
    intro v
    rw [Nat.testBit_or, Nat.testBit_two_pow]
  cases hu : R.testBit (k / 12)
  · constructor
    · refine ⟨?_, ?_, ?_⟩
      · exact Nat.or_lt_two_pow (n := 12) s.1 (Nat.pow_lt_pow_right (by decide) hq)
      · rw [hbit, s.2.1]; rfl
      · intro b h11 hc v hv hr
        rw [hbit, Bool.or_eq_true, decide_eq_true_eq] at hr
        rcases hr with hr | hr
        · exact s.2.2 b h11 hc v hv hr
        · subst hr
          have h1 := s.2.2 b h11 hc (k % 12) (by omega) hb
          cases e : b (k / 12)
          · have := hc (k / 12) (k % 12) hq (by omega) e h1
            rw [show 12 * (k / 12) + k % 12 = k by omega] at this
            omega
          · rfl
    · have hc : ub_cn (R ||| 2 ^ (k / 12)) = ub_cn R + 1 := by
        have := ub_s_upd (f := fun v => (R.testBit v).toNat) (g := fun v => ((R ||| 2 ^ (k / 12)).testBit v).toNat) (i := k / 12) 12 hq
          (fun j _ ne => by (try dsimp only); rw [hbit, decide_eq_false (fun z => ne z.symm), Bool.or_false])
        try dsimp only at this
        rw [hbit, hu, decide_eq_true rfl] at this
        exact this
      rcases h with h | h | ⟨h, g⟩
      · have := h k hk hl hb
        rw [hu] at this
        exact absurd this (by decide)
      · exact Or.inr (Or.inl (by omega))
      · exact Or.inr (Or.inl (by omega))
  · have e : R ||| 2 ^ (k / 12) = R := by
      apply Nat.eq_of_testBit_eq
      intro i
      rw [hbit]
      by_cases z : k / 12 = i
      · rw [← z, hu]; rfl
      · rw [decide_eq_false z, Bool.or_false]
    rw [e]
    exact ⟨s, ub_dd_skip h (fun _ _ => hu)⟩
theorem ub_pc_rs {L : Nat → Nat} {R : Nat} (s : ub_sk L R) (h : ub_pc L R 144) : ub_rs L R.testBit := by
  refine ⟨s.2.1, ?_, s.2.2⟩
  intro u v hu hv h0 h1
  apply Classical.byContradiction
  intro z
  have := h (12 * u + v) (by omega) (by omega)
  rw [show (12 * u + v) / 12 = u by omega, show (12 * u + v) % 12 = v by omega] at this
  rw [this h1] at h0
  exact absurd h0 (by decide)
section
variable {fn fc fs : Int32} {aF aR aT aB aU aX aW pr qu : Nat → Int32} {L : Nat → Nat}
theorem ub_rs14 {post : Int32 → Prop} {J : Int32 → Int32 → Prop} {m r : Nat} (hL : ∀ j, j < 144 → L j < 2 ^ 31)
    (K : ∀ R, ub_sk L R → (ub_pc L R 144 ∨ m < ub_cn R) → J (nI R) (nI (r + 1))) :
    ∀ d k R N, k + d = 144 → ub_sk L R → ub_dd L R m k → d < N →
      wX_reachingSink_14 post J (nI r) fn fc fs aF aR aT aB aU aX aW (ub_l L) pr qu N (nI R) (nI k) := by
  intro d
  induction d with
  | zero =>
    intro k R N hk s h hN
    obtain ⟨N, rfl⟩ : ∃ M, N = M + 1 := ⟨N - 1, by omega⟩
    refine pk_le 144 k (fun _ => nm_r (nI_1 r) (K R s ?_)) (fun h => by omega)
    rcases h with h | h | ⟨h, g⟩
    · exact Or.inl h
    · exact Or.inr h
    · rw [show k = 144 by omega] at g
      exact Or.inl g
  | succ d ih =>
    intro k R N hk s h hN
    obtain ⟨N, rfl⟩ : ∃ M, N = M + 1 := ⟨N - 1, by omega⟩
    have hR := s.1
    have e1 : nI k - nI k / 12 * 12 = nI (k % 12) := pk_rem (d := 12) (by omega) (by omega) (by omega)
    have e2 : nI k / 12 = nI (k / 12) := pk_div (d := 12) (by omega) (by omega) (by omega)
    have e3 : (nI R >>> (nI (k % 12) &&& 31)) &&& 1 = nI (R.testBit (k % 12)).toNat := ub_bit (by omega) (by omega)
    have e4 : (1 : Int32) <<< (nI (k / 12) &&& 31) = nI (2 ^ (k / 12)) := ub_sh (by omega)
    have hb := ub_bl (R.testBit (k % 12))
    have hl := hL k (by omega)
    refine pk_le 144 k (fun h => by omega) (fun _ => ⟨vp_in_nI (by omega) (by omega), ?_⟩)
    rw [ub_rd L (show k < 2 ^ 31 by omega), e1, e2, e3, e4]
    refine pk_le (L k) 0 (fun h0 => nm_r (nI_1 k) (ih (k + 1) R N (by omega) s (ub_dd_skip h (fun z => by omega)) (by omega)))
      (fun h0 => ⟨by decide, pk_eq (R.testBit (k % 12)).toNat 1 (fun h1 => ⟨by decide, nm_r (ub_or R (2 ^ (k / 12))) (nm_r (nI_1 k) ?_)⟩) (fun h1 => nm_r (nI_1 k) ?_)⟩)
    · have h2 : R.testBit (k % 12) = true := by
        cases e : R.testBit (k % 12)
        · rw [e] at h1; exact absurd h1 (by decide)
        · rfl
      obtain ⟨a, b⟩ := ub_dd_add h s (by omega) h0 h2
      exact ih (k + 1) _ N (by omega) a b (by omega)
    · refine ih (k + 1) R N (by omega) s (ub_dd_skip h (fun _ z => ?_)) (by omega)
      rw [z] at h1
      exact absurd rfl h1
theorem ub_rs6 {post : Int32 → Prop} {n : Nat} (hn : n ≤ 10) (hL : ∀ j, j < 144 → L j < 2 ^ 31)
    (K : ∀ R, ub_rs L R.testBit → post (nI (R &&& (2 ^ n - 1)))) :
    ∀ d r R N, r + d = 12 → ub_sk L R → (ub_pc L R 144 ∨ r < ub_cn R) → d < N →
      wX_reachingSink_6 post (nI n) fc fs aF aR aT aB aU aX aW (ub_l L) pr qu N (nI R) (nI r) := by
  intro d
  induction d with
  | zero =>
    intro r R N hr s h hN
    obtain ⟨N, rfl⟩ : ∃ M, N = M + 1 := ⟨N - 1, by omega⟩
    refine pk_le 12 r (fun _ => ?_) (fun h => by omega)
    have hp : 2 ^ n ≥ 1 := Nat.one_le_two_pow
    have e1 : nI (2 ^ n) - 1 = nI (2 ^ n - 1) := pk_sub (b := 1) hp
    rw [ub_sh (show n < 32 by omega), e1, nx_and]
    refine K R (ub_pc_rs s ?_)
    rcases h with h | h
    · exact h
    · have := ub_cn_le R
      omega
  | succ d ih =>
    intro r R N hr s h hN
    obtain ⟨N, rfl⟩ : ∃ M, N = M + 1 := ⟨N - 1, by omega⟩
    refine pk_le 12 r (fun h => by omega) (fun _ => ⟨145, ?_⟩)
    refine ub_rs14 (m := r + 1) hL (fun R' s' h' => ih (r + 1) R' N (by omega) s' h' (by omega)) 144 0 R 145 rfl s ?_ (by omega)
    rcases h with h | h
    · exact Or.inl h
    · exact Or.inr (Or.inr ⟨h, fun j hj => by omega⟩)
theorem ub_2048 : ∀ v, v < 12 → Nat.testBit 2048 v = true → v = 11 := by decide
theorem ub_reach0 {post : Int32 → Prop} {n : Nat} (hn : n ≤ 10) (hL : ∀ j, j < 144 → L j < 2 ^ 31)
    (K : ∀ R, ub_rs L R.testBit → post (nI (R &&& (2 ^ n - 1)))) :
    wpX_reachingSink post (nI n, fc, fs, aF, aR, aT, aB, aU, aX, aW, ub_l L, pr, qu) := by
  refine ⟨13, ub_rs6 hn hL K 12 0 2048 13 rfl ⟨by omega, by decide, fun b h11 _ v hv hr => ?_⟩ (Or.inr (by decide)) (by omega)⟩
  rw [ub_2048 v hv hr]
  exact h11
theorem ub_nf8 {post : Int32 → SX → Prop} {n : Nat} {aL : Nat → Int32} (hn : n ≤ 10)
    (K : ∀ r, (∀ v, r.testBit v = true ↔ v < n ∧ pr v = -1) → post (nI r) (nI n, fc, fs, aF, aR, aT, aB, aU, aX, aW, aL, pr, qu)) :
    ∀ d i r N, i + d = n → (∀ v, r.testBit v = true ↔ v < i ∧ pr v = -1) → d < N →
      wX_notFromSource_8 post (nI n) fc fs aF aR aT aB aU aX aW aL pr qu N (nI r) (nI i) := by
  intro d
  induction d with
  | zero =>
    intro i r N hi h hN
    obtain ⟨N, rfl⟩ : ∃ M, N = M + 1 := ⟨N - 1, by omega⟩
    refine pk_le n i (fun _ => K r ?_) (fun h => by omega)
    rw [show n = i by omega]
    exact h
  | succ d ih =>
    intro i r N hi h hN
    obtain ⟨N, rfl⟩ : ∃ M, N = M + 1 := ⟨N - 1, by omega⟩
    refine pk_le n i (fun h => by omega) (fun _ => ⟨vp_in_nI (by omega) (by omega), ?_⟩)
    rw [nI_clamp (show i < 2 ^ 31 by omega), ub_sh (show i < 32 by omega)]
    refine br_c (fun e => nm_r (ub_or r (2 ^ i)) (nm_r (nI_1 i) (ih (i + 1) _ N (by omega) (fun v => ?_) (by omega)))) (fun ne => nm_r (nI_1 i) (ih (i + 1) r N (by omega) (fun v => ?_) (by omega)))
    · rw [Nat.testBit_or, Nat.testBit_two_pow, Bool.or_eq_true, decide_eq_true_eq, h v]
      constructor
      · rintro (⟨a, b⟩ | a)
        · exact ⟨by omega, b⟩
        · subst a; exact ⟨by omega, e⟩
      · rintro ⟨a, b⟩
        by_cases z : i = v
        · exact Or.inr z
        · exact Or.inl ⟨by omega, b⟩
    · rw [h v]
      constructor
      · rintro ⟨a, b⟩
        exact ⟨by omega, b⟩
      · rintro ⟨a, b⟩
        by_cases z : v = i
        · subst z; exact absurd b ne
        · exact ⟨by omega, b⟩
end
section
variable {n c : Nat} {F fr to bx ux w : Nat → Nat} {sk sk' fc : Int32} {L : Nat → Nat} {t : Nat} {aF aR aT aB aU aX aW pr qu : Nat → Int32}
theorem ub_mf_L (h : ub_mf n c F fr to bx ux w sk L t) : ∀ j, j < 144 → L j < 2 ^ 31 := fun j hj => by have := h.1 j hj; omega
/-- the values that are boxed in all best plans -/
theorem ub_reach {post : Int32 → Prop} (ok : ub_ok n c F fr to bx ux) (h : ub_mf n c F fr to bx ux w sk L t)
    (K : ∀ r, ub_cm (fun p => ub_ag w n p.testBit) (fun p => ub_tot n c F fr to bx ux sk p.testBit) n (2 ^ n) t r → post (nI r)) :
    wpX_reachingSink post (nI n, fc, sk', aF, aR, aT, aB, aU, aX, aW, ub_l L, pr, qu) := by
  refine ub_reach0 ok.2.1 (ub_mf_L h) (fun R hR => K _ (fun v => ?_))
  rw [Nat.testBit_and, Nat.testBit_two_pow_sub_one, Bool.and_eq_true, decide_eq_true_eq]
  constructor
  · rintro ⟨a, b⟩
    exact ⟨b, (ub_rs_cm ok h hR b).mp a⟩
  · rintro ⟨b, a⟩
    exact ⟨(ub_rs_cm ok h hR b).mpr a, b⟩
/-- the values that are boxed in some best plan -/
theorem ub_nfs {post : Int32 → SX → Prop} (ok : ub_ok n c F fr to bx ux) (h : ub_mf n c F fr to bx ux w sk L t)
    (K : ∀ r pr qu, ub_sm (fun p => ub_ag w n p.testBit) (fun p => ub_tot n c F fr to bx ux sk p.testBit) (2 ^ n) t r →
      post (nI r) (nI n, fc, sk', aF, aR, aT, aB, aU, aX, aW, ub_l L, pr, qu)) :
    wpX_notFromSource post (nI n, fc, sk', aF, aR, aT, aB, aU, aX, aW, ub_l L, pr, qu) := by
  refine ub_search (ub_mf_L h) (fun pr qu rk hs => ⟨n + 1, ?_⟩)
  refine ub_nf8 ok.2.1 (fun r hr => K r pr qu (fun v => ?_)) n 0 0 (n + 1) (by omega) (fun v => ?_) (by omega)
  · rw [hr v]
    constructor
    · rintro ⟨a, b⟩
      exact (ub_sr_sm ok h hs a).mp b
    · rintro ⟨p, hp, ha, he, hb⟩
      have hv := ub_tb_lt hp hb
      exact ⟨hv, (ub_sr_sm ok h hs hv).mpr ⟨p, hp, ha, he, hb⟩⟩
  · rw [Nat.zero_testBit]
    exact ⟨fun z => absurd z (by decide), fun z => absurd z.1 (by omega)⟩
end
end
section
/-! Y's walks: total, allowed, least, common, some -/
theorem ub_ag1 {f : Nat} {b : Bool} (h : f ≤ 2) : ((f = 0 → b = false) ∧ (f = 1 → b = true)) ↔ (f = 2 ∨ f = b.toNat) := by
  have : f = 0 ∨ f = 1 ∨ f = 2 := by omega
  rcases this with rfl | rfl | rfl <;> cases b <;> simp
section
variable {n P c : Nat} {F fr to bx ux fx : Nat → Nat}
theorem ub_form {post : Int32 → Prop} {fn fp fc : Int32} {a1 a2 a3 a4 a5 a6 : Nat → Int32} {p v : Nat} (hp : p < 2 ^ 31) (hv : v < 32) (h : post (nI (p.testBit v).toNat)) :
    wpY_form post (fn, fp, fc, a1, a2, a3, a4, a5, a6) (nI p) (nI v) := by
  show post ((nI p >>> (nI v &&& 31)) &&& 1)
  rw [ub_bit hp hv]
  exact h
theorem ub_t50 {post : Int32 → Prop} {p S : Nat} {sk : Int32} (ok : ub_ok n c F fr to bx ux) (hp : p < 2 ^ 31)
    (K : post (nI (S + ub_s (ub_fc fr to bx ux sk p.testBit) c))) :
    ∀ d f N, f + d = c → d < N →
      wY_total_50 post (nI p) sk (nI n) (nI P) (nI c) (ub_l F) (ub_l fx) (ub_l fr) (ub_l to) (ub_l bx) (ub_l ux) N (nI (S + ub_s (ub_fc fr to bx ux sk p.testBit) f)) (nI f) := by
  obtain ⟨_, hn, hc, _, hfr, hto, hbx, hux⟩ := ok
  intro d
  induction d with
  | zero =>
    intro f N hf hN
    obtain ⟨N, rfl⟩ : ∃ M, N = M + 1 := ⟨N - 1, by omega⟩
    refine pk_le c f (fun _ => ?_) (fun h => by omega)
    rw [show f = c by omega]
    exact K
  | succ d ih =>
    intro f N hf hN
    obtain ⟨N, rfl⟩ : ∃ M, N = M + 1 := ⟨N - 1, by omega⟩
    have r1 := hfr f
    have r2 := hto f
    have i1 : vp_in (nI f) 20 := vp_in_nI (by omega) (by omega)
    have IH := ih (f + 1) N (by omega) (by omega)
    have es : ub_s (ub_fc fr to bx ux sk p.testBit) (f + 1) = ub_s (ub_fc fr to bx ux sk p.testBit) f + ub_fc fr to bx ux sk p.testBit f := rfl
    rw [es] at IH
    generalize hs : ub_s (ub_fc fr to bx ux sk p.testBit) f = s at IH
    refine pk_le c f (fun h => by omega) (fun _ => pk_le 20 f (fun h => by omega) (fun _ => ⟨i1, ?_⟩))
    rw [ub_rd fr (show f < 2 ^ 31 by omega), ub_rd to (show f < 2 ^ 31 by omega), ub_rd bx (show f < 2 ^ 31 by omega)]
    refine ub_form hp (by omega) ⟨i1, ub_form hp (by omega) ?_⟩
    by_cases e : nI f = sk
    · have ev : ub_fc fr to bx ux sk p.testBit f = 0 := if_pos e
      rw [ev, Nat.add_zero] at IH
      exact br_t e (br_t e (nm_r (nI_1 f) IH))
    · have ev : ub_fc fr to bx ux sk p.testBit f = if p.testBit (fr f) = p.testBit (to f) then 0 else if p.testBit (fr f) = false then bx f else ux f := if_neg e
      rw [ev] at IH
      have eu : ub_l ux (nI f).toNatClampNeg = nI (ux f) := ub_rd ux (by omega)
      cases ha : p.testBit (fr f) <;> cases hb : p.testBit (to f) <;> rw [ha, hb] at IH
      · exact br_f e (br_t rfl (br_f (by decide) (br_f e (br_f (by decide) (nm_r (nI_1 f) IH)))))
      · refine br_f e (br_t rfl (br_t rfl ⟨i1, nm_r (nI_add _ _) (br_f e (br_f (by decide) (nm_r (nI_1 f) ?_)))⟩))
        rw [Nat.add_assoc]
        exact IH
      · refine br_f e (br_f (by decide) (br_f e (br_t rfl (br_t rfl ⟨i1, ?_⟩))))
        rw [eu]
        refine nm_r (nI_add _ _) (nm_r (nI_1 f) ?_)
        rw [Nat.add_assoc]
        exact IH
      · exact br_f e (br_f (by decide) (br_f e (br_t rfl (br_f (by decide) (nm_r (nI_1 f) IH)))))
theorem ub_t5 {post : Int32 → Prop} {p : Nat} {sk : Int32} (ok : ub_ok n c F fr to bx ux) (hp : p < 2 ^ 31)
    (K : post (nI (ub_tot n c F fr to bx ux sk p.testBit))) :
    ∀ d v N, v + d = n → d < N →
      wY_total_5 post (nI p) sk (nI n) (nI P) (nI c) (ub_l F) (ub_l fx) (ub_l fr) (ub_l to) (ub_l bx) (ub_l ux) N (nI (ub_s (fun v => F (2 * v + (p.testBit v).toNat)) v)) (nI v) := by
  have hn := ok.2.1
  intro d
  induction d with
  | zero =>
    intro v N hv hN
    obtain ⟨N, rfl⟩ : ∃ M, N = M + 1 := ⟨N - 1, by omega⟩
    refine pk_le n v (fun _ => ⟨c + 1, ?_⟩) (fun h => by omega)
    rw [show v = n by omega]
    exact ub_t50 ok hp K c 0 (c + 1) (by omega) (by omega)
  | succ d ih =>
    intro v N hv hN
    obtain ⟨N, rfl⟩ : ∃ M, N = M + 1 := ⟨N - 1, by omega⟩
    have hb := ub_bl (p.testBit v)
    have IH := ih (v + 1) N (by omega) (by omega)
    refine pk_le n v (fun h => by omega) (fun _ => pk_le 10 v (fun h => by omega) (fun _ => ub_form hp (by omega) ?_))
    rw [ub_ix2, ub_rd F (show 2 * v + (p.testBit v).toNat < 2 ^ 31 by omega)]
    exact ⟨vp_in_nI (by omega) (by omega), nm_r (nI_add _ _) (nm_r (nI_1 v) IH)⟩
theorem ub_total {post : Int32 → Prop} {p : Nat} {sk : Int32} (ok : ub_ok n c F fr to bx ux) (hp : p < 2 ^ 31)
    (K : post (nI (ub_tot n c F fr to bx ux sk p.testBit))) :
    wpY_total post (nI n, nI P, nI c, ub_l F, ub_l fx, ub_l fr, ub_l to, ub_l bx, ub_l ux) (nI p) sk :=
  ⟨n + 1, ub_t5 ok hp K n 0 (n + 1) (by omega) (by omega)⟩
theorem ub_al2 {post : Int32 → Prop} {p : Nat} {fc fp : Int32} {a1 a3 a4 a5 a6 : Nat → Int32} (hn : n ≤ 10) (hx : ∀ j, fx j ≤ 2) (hp : p < 2 ^ 31)
    (K1 : ub_ag fx n p.testBit → post 1) (K0 : ¬ ub_ag fx n p.testBit → post 0) :
    ∀ d v N, v + d = n → (∀ j, j < v → (fx j = 0 → p.testBit j = false) ∧ (fx j = 1 → p.testBit j = true)) → d < N →
      wY_allowed_2 post (nI p) (nI n) fp fc a1 (ub_l fx) a3 a4 a5 a6 N (nI v) := by
  intro d
  induction d with
  | zero =>
    intro v N hv h hN
    obtain ⟨N, rfl⟩ : ∃ M, N = M + 1 := ⟨N - 1, by omega⟩
    exact pk_le n v (fun _ => K1 (fun j hj => h j (by omega))) (fun h => by omega)
  | succ d ih =>
    intro v N hv h hN
    obtain ⟨N, rfl⟩ : ∃ M, N = M + 1 := ⟨N - 1, by omega⟩
    have hb := ub_bl (p.testBit v)
    have hxv := hx v
    have i1 : vp_in (nI v) 10 := vp_in_nI (by omega) (by omega)
    have st : (fx v = 2 ∨ fx v = (p.testBit v).toNat) → wY_allowed_2 post (nI p) (nI n) fp fc a1 (ub_l fx) a3 a4 a5 a6 N (nI (v + 1)) := by
      intro hh
      refine ih (v + 1) N (by omega) (fun j hj => ?_) (by omega)
      by_cases e : j = v
      · subst e; exact (ub_ag1 hxv).mpr hh
      · exact h j (by omega)
    refine pk_le n v (fun h => by omega) (fun _ => pk_le 10 v (fun h => by omega) (fun _ => ⟨i1, ?_⟩))
    rw [ub_rd fx (show v < 2 ^ 31 by omega)]
    refine pk_eq (fx v) 2 (fun e => nm_r (nI_1 v) (st (Or.inl e))) (fun ne => ⟨i1, ub_form hp (by omega) ?_⟩)
    refine pk_eq (fx v) (p.testBit v).toNat (fun e => nm_r (nI_1 v) (st (Or.inr e))) (fun ne2 => K0 (fun z => ?_))
    rcases (ub_ag1 hxv).mp (z v (by omega)) with z | z
    · exact ne z
    · exact ne2 z
theorem ub_allowed {post : Int32 → Prop} {p : Nat} {fc fp : Int32} {a1 a3 a4 a5 a6 : Nat → Int32} (hn : n ≤ 10) (hx : ∀ j, fx j ≤ 2) (hp : p < 2 ^ 31)
    (K1 : ub_ag fx n p.testBit → post 1) (K0 : ¬ ub_ag fx n p.testBit → post 0) :
    wpY_allowed post (nI n, fp, fc, a1, ub_l fx, a3, a4, a5, a6) (nI p) :=
  ⟨n + 1, ub_al2 hn hx hp K1 K0 n 0 (n + 1) (by omega) (fun j hj => by omega) (by omega)⟩
theorem ub_T31 (ok : ub_ok n c F fr to bx ux) (sk : Int32) (p : Nat) : ub_tot n c F fr to bx ux sk p.testBit < 2 ^ 31 := by
  obtain ⟨_, hn, hc, hF, _, _, hb, hu⟩ := ok
  have := ub_tot_le (fr := fr) (to := to) (sk := sk) (b := p.testBit) hn hc hF hb hu
  omega
theorem ub_le4 {post : Int32 → Prop} {sk : Int32} (ok : ub_ok n c F fr to bx ux) (hx : ∀ j, fx j ≤ 2) (hP : P ≤ 1024)
    (K : ∀ r, ub_mn (fun p => ub_ag fx n p.testBit) (fun p => ub_tot n c F fr to bx ux sk p.testBit) P (-1) r → post r) :
    ∀ d p r N, p + d = P → ub_mn (fun p => ub_ag fx n p.testBit) (fun p => ub_tot n c F fr to bx ux sk p.testBit) p (-1) r → d < N →
      wY_least_4 post sk (nI n) (nI P) (nI c) (ub_l F) (ub_l fx) (ub_l fr) (ub_l to) (ub_l bx) (ub_l ux) N r (nI p) := by
  have hn := ok.2.1
  intro d
  induction d with
  | zero =>
    intro p r N hp h hN
    obtain ⟨N, rfl⟩ : ∃ M, N = M + 1 := ⟨N - 1, by omega⟩
    refine pk_le P p (fun _ => K r ?_) (fun h => by omega)
    rw [show P = p by omega]
    exact h
  | succ d ih =>
    intro p r N hp h hN
    obtain ⟨N, rfl⟩ : ∃ M, N = M + 1 := ⟨N - 1, by omega⟩
    refine pk_le P p (fun h => by omega) (fun _ => ub_allowed hn hx (by omega) (fun ha => ?_) (fun ha => ?_))
    · refine br_f (by decide) (ub_total ok (by omega) ?_)
      refine br_c (fun hr => nm_r (nI_1 p) (ih (p + 1) _ N (by omega) (ub_mn_neg h (ub_T31 ok sk) hr ha) (by omega))) (fun hr => ?_)
      exact br_c (fun hc => nm_r (nI_1 p) (ih (p + 1) _ N (by omega) (ub_mn_keep h (ub_T31 ok sk) ub_neg1 hr hc ha) (by omega)))
        (fun hc => nm_r (nI_1 p) (ih (p + 1) _ N (by omega) (ub_mn_less h (ub_T31 ok sk) ub_neg1 hr hc ha) (by omega)))
    · exact br_t rfl (nm_r (nI_1 p) (ih (p + 1) r N (by omega) (ub_mn_skip h ha) (by omega)))
theorem ub_least {post : Int32 → Prop} {sk : Int32} (ok : ub_ok n c F fr to bx ux) (hx : ∀ j, fx j ≤ 2) (hP : P ≤ 1024)
    (K : ∀ r, ub_mn (fun p => ub_ag fx n p.testBit) (fun p => ub_tot n c F fr to bx ux sk p.testBit) P (-1) r → post r) :
    wpY_least post (nI n, nI P, nI c, ub_l F, ub_l fx, ub_l fr, ub_l to, ub_l bx, ub_l ux) sk :=
  ⟨P + 1, ub_le4 ok hx hP K P 0 (-1) (P + 1) (by omega) ub_mn_0 (by omega)⟩
theorem ub_co15 {post : Int32 → Prop} {t : Nat} (ok : ub_ok n c F fr to bx ux) (hx : ∀ j, fx j ≤ 2) (hP : P ≤ 1024) (ht : t < 2 ^ 31)
    (K : ∀ r, ub_cm (fun p => ub_ag fx n p.testBit) (fun p => ub_tot n c F fr to bx ux (-1) p.testBit) n P t r → post (nI r)) :
    ∀ d p r N, p + d = P → ub_cm (fun p => ub_ag fx n p.testBit) (fun p => ub_tot n c F fr to bx ux (-1) p.testBit) n p t r → d < N →
      wY_common_15 post (nI t) (nI n) (nI P) (nI c) (ub_l F) (ub_l fx) (ub_l fr) (ub_l to) (ub_l bx) (ub_l ux) N (nI r) (nI p) := by
  have hn := ok.2.1
  intro d
  induction d with
  | zero =>
    intro p r N hp h hN
    obtain ⟨N, rfl⟩ : ∃ M, N = M + 1 := ⟨N - 1, by omega⟩
    refine pk_le P p (fun _ => K r ?_) (fun h => by omega)
    rw [show P = p by omega]
    exact h
  | succ d ih =>
    intro p r N hp h hN
    obtain ⟨N, rfl⟩ : ∃ M, N = M + 1 := ⟨N - 1, by omega⟩
    refine pk_le P p (fun h => by omega) (fun _ => ub_allowed hn hx (by omega) (fun ha => ?_) (fun ha => ?_))
    · refine br_f (by decide) (ub_total ok (by omega) ?_)
      exact pk_eq (ub_tot n c F fr to bx ux (-1) p.testBit) t (fun e => nm_r (nx_and r p) (nm_r (nI_1 p) (ih (p + 1) _ N (by omega) (ub_cm_take h ha e) (by omega))))
        (fun e => nm_r (nI_1 p) (ih (p + 1) r N (by omega) (ub_cm_skip h (fun z => e z.2)) (by omega))) rfl rfl (ub_T31 ok _ p) ht
    · exact br_t rfl (nm_r (nI_1 p) (ih (p + 1) r N (by omega) (ub_cm_skip h (fun z => ha z.1)) (by omega)))
theorem ub_so10 {post : Int32 → Prop} {t : Nat} (ok : ub_ok n c F fr to bx ux) (hx : ∀ j, fx j ≤ 2) (hP : P ≤ 1024) (ht : t < 2 ^ 31)
    (K : ∀ r, ub_sm (fun p => ub_ag fx n p.testBit) (fun p => ub_tot n c F fr to bx ux (-1) p.testBit) P t r → post (nI r)) :
    ∀ d p r N, p + d = P → ub_sm (fun p => ub_ag fx n p.testBit) (fun p => ub_tot n c F fr to bx ux (-1) p.testBit) p t r → d < N →
      wY_some_10 post (nI t) (nI n) (nI P) (nI c) (ub_l F) (ub_l fx) (ub_l fr) (ub_l to) (ub_l bx) (ub_l ux) N (nI r) (nI p) := by
  have hn := ok.2.1
  intro d
  induction d with
  | zero =>
    intro p r N hp h hN
    obtain ⟨N, rfl⟩ : ∃ M, N = M + 1 := ⟨N - 1, by omega⟩
    refine pk_le P p (fun _ => K r ?_) (fun h => by omega)
    rw [show P = p by omega]
    exact h
  | succ d ih =>
    intro p r N hp h hN
    obtain ⟨N, rfl⟩ : ∃ M, N = M + 1 := ⟨N - 1, by omega⟩
    refine pk_le P p (fun h => by omega) (fun _ => ub_allowed hn hx (by omega) (fun ha => ?_) (fun ha => ?_))
    · refine br_f (by decide) (ub_total ok (by omega) ?_)
      exact pk_eq (ub_tot n c F fr to bx ux (-1) p.testBit) t (fun e => nm_r (ub_or r p) (nm_r (nI_1 p) (ih (p + 1) _ N (by omega) (ub_sm_take h ha e) (by omega))))
        (fun e => nm_r (nI_1 p) (ih (p + 1) r N (by omega) (ub_sm_skip h (fun z => e z.2)) (by omega))) rfl rfl (ub_T31 ok _ p) ht
    · exact br_t rfl (nm_r (nI_1 p) (ih (p + 1) r N (by omega) (ub_sm_skip h (fun z => ha z.1)) (by omega)))
end
section
variable {n c : Nat} {F fr to bx ux fx : Nat → Nat} {t : Nat}
theorem ub_2n (hn : n ≤ 10) : 2 ^ n ≤ 1024 := Nat.pow_le_pow_right (by decide) hn
theorem ub_common {post : Int32 → Prop} (ok : ub_ok n c F fr to bx ux) (hx : ∀ j, fx j ≤ 2) (ht : t < 2 ^ 31)
    (hm : ub_mn (fun p => ub_ag fx n p.testBit) (fun p => ub_tot n c F fr to bx ux (-1) p.testBit) (2 ^ n) (-1) (nI t))
    (K : ∀ r, ub_cm (fun p => ub_ag fx n p.testBit) (fun p => ub_tot n c F fr to bx ux (-1) p.testBit) n (2 ^ n) t r → post (nI r)) :
    wpY_common post (nI n, nI (2 ^ n), nI c, ub_l F, ub_l fx, ub_l fr, ub_l to, ub_l bx, ub_l ux) := by
  have hp := ub_2n ok.2.1
  refine ub_least ok hx hp (fun r hr => ?_)
  cases ub_mn_uq hm hr
  refine nm_r (pk_sub (a := 2 ^ n) (b := 1) Nat.one_le_two_pow) ⟨2 ^ n + 1, ?_⟩
  exact ub_co15 ok hx hp ht K (2 ^ n) 0 (2 ^ n - 1) (2 ^ n + 1) (by omega) ub_cm_0 (by omega)
theorem ub_some {post : Int32 → Prop} (ok : ub_ok n c F fr to bx ux) (hx : ∀ j, fx j ≤ 2) (ht : t < 2 ^ 31)
    (hm : ub_mn (fun p => ub_ag fx n p.testBit) (fun p => ub_tot n c F fr to bx ux (-1) p.testBit) (2 ^ n) (-1) (nI t))
    (K : ∀ r, ub_sm (fun p => ub_ag fx n p.testBit) (fun p => ub_tot n c F fr to bx ux (-1) p.testBit) (2 ^ n) t r → post (nI r)) :
    wpY_some post (nI n, nI (2 ^ n), nI c, ub_l F, ub_l fx, ub_l fr, ub_l to, ub_l bx, ub_l ux) := by
  have hp := ub_2n ok.2.1
  refine ub_least ok hx hp (fun r hr => ?_)
  cases ub_mn_uq hm hr
  refine ⟨2 ^ n + 1, ?_⟩
  exact ub_so10 ok hx hp ht K (2 ^ n) 0 0 (2 ^ n + 1) (by omega) ub_sm_0 (by omega)
end
end
section
/-! the relation; the constructors and the plain methods -/
def i_Rel (_ : Nat) (u : SX) (v : SY) : Prop :=
  ∃ (n c : Nat) (F fr to bx ux fx w L : Nat → Nat) (pr qu : Nat → Int32),
    u = (nI n, nI c, -1, ub_l F, ub_l fr, ub_l to, ub_l bx, ub_l ux, ub_l fx, ub_l w, ub_l L, pr, qu) ∧
    v = (nI n, nI (2 ^ n), nI c, ub_l F, ub_l fx, ub_l fr, ub_l to, ub_l bx, ub_l ux) ∧ ub_ok n c F fr to bx ux ∧ ∀ j, fx j ≤ 2
theorem i_up {k : Nat} {u : SX} {v : SY} (h : i_Rel k u v) : i_Rel (k + 5) u v := h
theorem ub_mk {k n c : Nat} {F fr to bx ux fx w L : Nat → Nat} {pr qu : Nat → Int32} (ok : ub_ok n c F fr to bx ux) (hx : ∀ j, fx j ≤ 2) :
    i_Rel k (nI n, nI c, -1, ub_l F, ub_l fr, ub_l to, ub_l bx, ub_l ux, ub_l fx, ub_l w, ub_l L, pr, qu)
      (nI n, nI (2 ^ n), nI c, ub_l F, ub_l fx, ub_l fr, ub_l to, ub_l bx, ub_l ux) :=
  ⟨n, c, F, fr, to, bx, ux, fx, w, L, pr, qu, rfl, rfl, ok, hx⟩
theorem ub_u_le {f : Nat → Nat} {k x m : Nat} (h : ∀ j, f j ≤ m) (hx : x ≤ m) : ∀ j, ub_u f k x j ≤ m := by
  intro j
  by_cases e : j = k
  · rw [e, ub_us]; exact hx
  · rw [ub_un e]; exact h j
theorem ub_u_lt {f : Nat → Nat} {k x m : Nat} (h : ∀ j, f j < m) (hx : x < m) : ∀ j, ub_u f k x j < m := by
  intro j
  by_cases e : j = k
  · rw [e, ub_us]; exact hx
  · rw [ub_un e]; exact h j
def ub_f0 (i j : Nat) : Nat := if j < i then 2 else 0
theorem ub_f0_le (i j : Nat) : ub_f0 i j ≤ 2 := by unfold ub_f0; split <;> omega
theorem ub_f0_s {i : Nat} : ub_u (ub_f0 i) i 2 = ub_f0 (i + 1) := by
  funext j
  by_cases e : j = i
  · subst e
    rw [ub_us]
    exact (if_pos (by omega)).symm
  · rw [ub_un e]
    unfold ub_f0
    by_cases h : j < i
    · rw [if_pos h, if_pos (by omega)]
    · rw [if_neg h, if_neg (by omega)]
theorem ub_f0_0 : (fun _ => 0 : Nat → Int32) = ub_l (ub_f0 0) := by
  funext j
  unfold ub_l ub_f0
  rw [if_neg (by omega)]
  rfl
theorem ub_xi116 {post : SX → Prop} {fn fc fs : Int32} {aF aR aT aB aU aW aL pr qu : Nat → Int32}
    (K : post (fn, fc, -1, aF, aR, aT, aB, aU, ub_l (ub_f0 10), aW, aL, pr, qu)) :
    ∀ d i N aX, i + d = 10 → aX = ub_l (ub_f0 i) → d < N → wX_init_116 post fn fc fs N (nI i) aF aR aT aB aU aX aW aL pr qu := by
  intro d
  induction d with
  | zero =>
    intro i N aX hi e hN
    obtain ⟨N, rfl⟩ : ∃ M, N = M + 1 := ⟨N - 1, by omega⟩
    subst e
    refine pk_le 10 i (fun _ => ?_) (fun h => by omega)
    rw [show i = 10 by omega]
    exact K
  | succ d ih =>
    intro i N aX hi e hN
    obtain ⟨N, rfl⟩ : ∃ M, N = M + 1 := ⟨N - 1, by omega⟩
    subst e
    refine pk_le 10 i (fun h => by omega) (fun _ => ⟨vp_in_nI (by omega) (by omega), nm_r (ub_wr _ 2 (by omega)) (nm_r (nI_1 i) (ih (i + 1) N _ (by omega) ?_ (by omega)))⟩)
    rw [ub_f0_s]
theorem ub_yi89 {post : SY → Prop} {fn fp fc : Int32} {a1 a3 a4 a5 a6 : Nat → Int32}
    (K : post (fn, fp, fc, a1, ub_l (ub_f0 10), a3, a4, a5, a6)) :
    ∀ d i N aX, i + d = 10 → aX = ub_l (ub_f0 i) → d < N → wY_init_89 post fn fp fc N (nI i) a1 aX a3 a4 a5 a6 := by
  intro d
  induction d with
  | zero =>
    intro i N aX hi e hN
    obtain ⟨N, rfl⟩ : ∃ M, N = M + 1 := ⟨N - 1, by omega⟩
    subst e
    refine pk_le 10 i (fun _ => ?_) (fun h => by omega)
    rw [show i = 10 by omega]
    exact K
  | succ d ih =>
    intro i N aX hi e hN
    obtain ⟨N, rfl⟩ : ∃ M, N = M + 1 := ⟨N - 1, by omega⟩
    subst e
    refine pk_le 10 i (fun h => by omega) (fun _ => ⟨vp_in_nI (by omega) (by omega), nm_r (ub_wr _ 2 (by omega)) (nm_r (nI_1 i) (ih (i + 1) N _ (by omega) ?_ (by omega)))⟩)
    rw [ub_f0_s]
def ub_0 : Nat → Int32 := fun _ => 0
theorem ub_x96 {post : SX → Prop} {n : Nat}
    (K : post (nI n, 0, -1, ub_0, ub_0, ub_0, ub_0, ub_0, ub_l (ub_f0 10), ub_0, ub_0, ub_0, ub_0)) :
    ∃ N, wX_init_116 post (nI n) 0 0 N 0 ub_0 ub_0 ub_0 ub_0 ub_0 ub_0 ub_0 ub_0 ub_0 ub_0 :=
  ⟨11, ub_xi116 K 10 0 11 ub_0 rfl ub_f0_0 (by omega)⟩
theorem ub_y74 {post : SY → Prop} {n : Nat} (hn : n ≤ 10)
    (K : post (nI n, nI (2 ^ n), 0, ub_0, ub_l (ub_f0 10), ub_0, ub_0, ub_0, ub_0)) :
    wY_init_74 post (nI n) 0 0 0 ub_0 ub_0 ub_0 ub_0 ub_0 ub_0 := by
  refine nm_r (ub_sh (by omega)) ⟨11, ub_yi89 K 10 0 11 ub_0 rfl ub_f0_0 (by omega)⟩
theorem ub_rel0 {k n : Nat} (h2 : 2 ≤ n) (hn : n ≤ 10) :
    i_Rel k (nI n, 0, -1, ub_0, ub_0, ub_0, ub_0, ub_0, ub_l (ub_f0 10), ub_0, ub_0, ub_0, ub_0) (nI n, nI (2 ^ n), 0, ub_0, ub_l (ub_f0 10), ub_0, ub_0, ub_0, ub_0) :=
  ⟨n, 0, fun _ => 0, fun _ => 0, fun _ => 0, fun _ => 0, fun _ => 0, ub_f0 10, fun _ => 0, fun _ => 0, ub_0, ub_0, rfl, rfl,
    ⟨h2, hn, by omega, fun _ => Nat.zero_le _, fun _ => (show 0 < n by omega), fun _ => (show 0 < n by omega), fun _ => Nat.zero_le _, fun _ => Nat.zero_le _⟩, ub_f0_le 10⟩
theorem i_vc0 (k0 : Int32) : wpX_init (fun u => wpY_init (fun v => i_Rel 1 u v) k0) k0 := by
  by_cases h2 : (2 : Int32) ≤ k0
  · by_cases h10 : k0 ≤ 10
    · obtain ⟨j, hj, rfl⟩ := nI_of2 (x := k0) (M := 10) (n := 10) (by decide) (fun z => Int32.lt_irrefl (Int32.lt_of_lt_of_le z (Int32.le_trans (show (0 : Int32) ≤ 2 by decide) h2))) h10
      have hj2 : 2 ≤ j := (nI_leI (a := 2) (by omega) (by omega)).mp h2
      exact br_t h2 (br_t h10 (ub_x96 (br_t h2 (br_t h10 (ub_y74 hj (ub_rel0 hj2 hj))))))
    · exact br_t h2 (br_f h10 (ub_x96 (n := 10) (br_t h2 (br_f h10 (ub_y74 (n := 10) (by omega) (ub_rel0 (by omega) (by omega)))))))
  · exact br_f h2 (br_t (show (2 : Int32) ≤ 10 by decide) (ub_x96 (n := 2) (br_f h2 (ub_y74 (n := 2) (by omega) (ub_rel0 (by omega) (by omega))))))
theorem i_vc_values {k : Nat} {u : SX} {v : SY} (I : i_Rel k u v) (hk : k + 5 ≤ 2561) : wpX_values (fun r => wpY_values (fun r' => r' = r ∧ i_Rel (k + 5) u v) v) u := by
  obtain ⟨n, c, F, fr, to, bx, ux, fx, w, L, pr, qu, rfl, rfl, ok, hx⟩ := I
  exact ⟨rfl, ub_mk ok hx⟩
theorem i_vc_flows {k : Nat} {u : SX} {v : SY} (I : i_Rel k u v) (hk : k + 5 ≤ 2561) : wpX_flows (fun r => wpY_flows (fun r' => r' = r ∧ i_Rel (k + 5) u v) v) u := by
  obtain ⟨n, c, F, fr, to, bx, ux, fx, w, L, pr, qu, rfl, rfl, ok, hx⟩ := I
  exact ⟨rfl, ub_mk ok hx⟩
/-! the checks of arguments -/
theorem ub_iv (N : Nat) (hN : N < 2 ^ 31) (x : Int32) : (x < 0 ∨ (¬ x < 0 ∧ nI N ≤ x)) ∨ ∃ j, j < N ∧ x = nI j := by
  by_cases h : x < 0
  · exact Or.inl (Or.inl h)
  · obtain ⟨j, hj, rfl⟩ := nI_of h
    by_cases h2 : j < N
    · exact Or.inr ⟨j, h2, rfl⟩
    · exact Or.inl (Or.inr ⟨h, nI_le (by omega) hj⟩)
section
variable {n c j : Nat} {fc fs : Int32} {aF aR aT aB aU aX aW aL pr qu : Nat → Int32} {post : Int32 → Prop} {x : Int32}
theorem ub_vXb (h : x < 0 ∨ (¬ x < 0 ∧ nI n ≤ x)) (K : post 0) : wpX_isValue post (nI n, fc, fs, aF, aR, aT, aB, aU, aX, aW, aL, pr, qu) x := by
  rcases h with h | ⟨h, g⟩
  · exact br_t h K
  · exact br_f h (br_t g K)
theorem ub_vXg (hn : n ≤ 10) (hj : j < n) (K : post 1) : wpX_isValue post (nI n, fc, fs, aF, aR, aT, aB, aU, aX, aW, aL, pr, qu) (nI j) :=
  br_f (nI_pos (by omega)) (br_f (nI_ge hj (by omega)) K)
theorem ub_fXb (h : x < 0 ∨ (¬ x < 0 ∧ nI c ≤ x)) {fn : Int32} (K : post 0) : wpX_isFlow post (fn, nI c, fs, aF, aR, aT, aB, aU, aX, aW, aL, pr, qu) x := by
  rcases h with h | ⟨h, g⟩
  · exact br_t h K
  · exact br_f h (br_t g K)
theorem ub_fXg {fn : Int32} (hc : c ≤ 20) (hj : j < c) (K : post 1) : wpX_isFlow post (fn, nI c, fs, aF, aR, aT, aB, aU, aX, aW, aL, pr, qu) (nI j) :=
  br_f (nI_pos (by omega)) (br_f (nI_ge hj (by omega)) K)
theorem ub_pXb (hn : n ≤ 10) (h : x < 0 ∨ (¬ x < 0 ∧ nI (2 ^ n) ≤ x)) (K : post 0) : wpX_isPlan post (nI n, fc, fs, aF, aR, aT, aB, aU, aX, aW, aL, pr, qu) x := by
  unfold wpX_isPlan
  dsimp only
  rw [ub_sh (show n < 32 by omega)]
  rcases h with h | ⟨h, g⟩
  · exact br_t h K
  · exact br_f h (br_t g K)
theorem ub_pXg (hn : n ≤ 10) (hj : j < 2 ^ n) (K : post 1) : wpX_isPlan post (nI n, fc, fs, aF, aR, aT, aB, aU, aX, aW, aL, pr, qu) (nI j) := by
  have := ub_2n hn
  unfold wpX_isPlan
  dsimp only
  rw [ub_sh (show n < 32 by omega)]
  exact br_f (nI_pos (by omega)) (br_f (nI_ge hj (by omega)) K)
variable {fp : Int32} {a1 a2 a3 a4 a5 a6 : Nat → Int32}
theorem ub_vYb (h : x < 0 ∨ (¬ x < 0 ∧ nI n ≤ x)) (K : post 1) : wpY_bad post (nI n, fp, fc, a1, a2, a3, a4, a5, a6) x := by
  rcases h with h | ⟨h, g⟩
  · exact br_t h K
  · exact br_f h (br_t g K)
theorem ub_vYg (hn : n ≤ 10) (hj : j < n) (K : post 0) : wpY_bad post (nI n, fp, fc, a1, a2, a3, a4, a5, a6) (nI j) :=
  br_f (nI_pos (by omega)) (br_f (nI_ge hj (by omega)) (br_t (nI_lt (b := 10) (by omega) (by decide)) K))
theorem ub_fYb {fn : Int32} (h : x < 0 ∨ (¬ x < 0 ∧ nI c ≤ x)) (K : post 1) : wpY_badFlow post (fn, fp, nI c, a1, a2, a3, a4, a5, a6) x := by
  rcases h with h | ⟨h, g⟩
  · exact br_t h K
  · exact br_f h (br_t g K)
theorem ub_fYg {fn : Int32} (hc : c ≤ 20) (hj : j < c) (K : post 0) : wpY_badFlow post (fn, fp, nI c, a1, a2, a3, a4, a5, a6) (nI j) :=
  br_f (nI_pos (by omega)) (br_f (nI_ge hj (by omega)) (br_t (nI_lt (b := 20) (by omega) (by decide)) K))
end
theorem ub_nm : ¬ (1 : Int32) = 0 := by decide
/-! cost -/
section
variable {n c j f m : Nat} {F : Nat → Nat} {fn fc fs : Int32} {aR aT aB aU aX aW aL pr qu : Nat → Int32} {x : Int32}
theorem ub_cX0 {post : Int32 → SX → Prop} {aF : Nat → Int32} {y z : Int32} (h : x < 0 ∨ (¬ x < 0 ∧ ¬ x ≤ 60)) (K : post (-3) (fn, fc, fs, aF, aR, aT, aB, aU, aX, aW, aL, pr, qu)) :
    wX_cost_22 post y z x fn fc fs aF aR aT aB aU aX aW aL pr qu := by
  rcases h with h | ⟨h, g⟩
  · exact br_t h K
  · exact br_f h (br_f g K)
theorem ub_cX1 {post : Int32 → SX → Prop} (hj : j < 10) (hf : f ≤ 1) (hm : m ≤ 60)
    (K : post (nI (F (2 * j + f))) (fn, fc, fs, ub_l (ub_u F (2 * j + f) m), aR, aT, aB, aU, aX, aW, aL, pr, qu)) :
    wX_cost_22 post (nI j) (nI f) (nI m) fn fc fs (ub_l F) aR aT aB aU aX aW aL pr qu := by
  unfold wX_cost_22
  rw [ub_ix2, ub_rd F (show 2 * j + f < 2 ^ 31 by omega)]
  have i1 : vp_in (nI (2 * j + f)) 20 := vp_in_nI (by omega) (by omega)
  exact br_f (nI_pos (by omega)) (br_t (nI_le (b := 60) hm (by decide)) ⟨i1, nm_e ⟨i1, nm_r (ub_wr F m (by omega)) K⟩⟩)
variable {fp : Int32} {a2 a3 a4 a5 a6 : Nat → Int32}
theorem ub_cY0 {post : Int32 → SY → Prop} {a1 : Nat → Int32} {y z : Int32} (h : x < 0 ∨ (¬ x < 0 ∧ ¬ x ≤ 60)) (K : post (-3) (fn, fp, fc, a1, a2, a3, a4, a5, a6)) :
    wY_cost_22 post y z x fn fp fc a1 a2 a3 a4 a5 a6 := by
  rcases h with h | ⟨h, g⟩
  · exact br_t h K
  · exact br_f h (br_f g K)
theorem ub_cY1 {post : Int32 → SY → Prop} (hj : j < 10) (hf : f ≤ 1) (hm : m ≤ 60)
    (K : post (nI (F (2 * j + f))) (fn, fp, fc, ub_l (ub_u F (2 * j + f) m), a2, a3, a4, a5, a6)) :
    wY_cost_22 post (nI j) (nI f) (nI m) fn fp fc (ub_l F) a2 a3 a4 a5 a6 := by
  unfold wY_cost_22
  rw [ub_ix2, ub_rd F (show 2 * j + f < 2 ^ 31 by omega)]
  have i1 : vp_in (nI (2 * j + f)) 20 := vp_in_nI (by omega) (by omega)
  exact br_f (nI_pos (by omega)) (br_t (nI_le (b := 60) hm (by decide)) ⟨i1, nm_e ⟨i1, nm_r (ub_wr F m (by omega)) K⟩⟩)
end
theorem ub_i60 (x : Int32) : (x < 0 ∨ (¬ x < 0 ∧ ¬ x ≤ 60)) ∨ ∃ m, m ≤ 60 ∧ x = nI m := by
  by_cases h : x < 0
  · exact Or.inl (Or.inl h)
  · by_cases g : x ≤ 60
    · exact Or.inr (nI_of2 (M := 60) (by decide) h g)
    · exact Or.inl (Or.inr ⟨h, g⟩)
theorem ub_ok_F {n c : Nat} {F fr to bx ux : Nat → Nat} {i m : Nat} (ok : ub_ok n c F fr to bx ux) (hm : m ≤ 60) : ub_ok n c (ub_u F i m) fr to bx ux :=
  ⟨ok.1, ok.2.1, ok.2.2.1, ub_u_le ok.2.2.2.1 hm, ok.2.2.2.2⟩
theorem i_vc_cost {k : Nat} {u : SX} {v : SY} (I : i_Rel k u v) (hk : k + 5 ≤ 2561) (v1 : Int32) (v2 : Int32) (v3 : Int32) : wpX_cost (fun r u' => wpY_cost (fun r' v' => r' = r ∧ i_Rel (k + 5) u' v') v v1 v2 v3) u v1 v2 v3 := by
  obtain ⟨n, c, F, fr, to, bx, ux, fx, w, L, pr, qu, rfl, rfl, ok, hx⟩ := I
  have hn := ok.2.1
  unfold wpX_cost wpY_cost
  dsimp only
  rcases ub_iv n (by omega) v1 with hb | ⟨j, hj, rfl⟩
  · exact ub_vXb hb (br_t rfl (ub_vYb hb (br_f ub_nm ⟨rfl, ub_mk ok hx⟩)))
  · by_cases h0 : v2 = 0
    · subst h0
      rcases ub_i60 v3 with hb | ⟨m, hm, rfl⟩
      · exact ub_vXg hn hj (br_f ub_nm (br_t rfl (ub_cX0 hb (ub_vYg hn hj (br_t rfl (br_t rfl (ub_cY0 hb ⟨rfl, ub_mk ok hx⟩)))))))
      · exact ub_vXg hn hj (br_f ub_nm (br_t rfl (ub_cX1 (f := 0) (by omega) (by omega) hm (ub_vYg hn hj (br_t rfl (br_t rfl (ub_cY1 (f := 0) (by omega) (by omega) hm ⟨rfl, ub_mk (ub_ok_F ok hm) hx⟩)))))))
    · by_cases h1 : v2 = 1
      · subst h1
        rcases ub_i60 v3 with hb | ⟨m, hm, rfl⟩
        · exact ub_vXg hn hj (br_f ub_nm (br_f h0 (br_t rfl (ub_cX0 hb (ub_vYg hn hj (br_t rfl (br_f h0 (br_t rfl (ub_cY0 hb ⟨rfl, ub_mk ok hx⟩)))))))))
        · exact ub_vXg hn hj (br_f ub_nm (br_f h0 (br_t rfl (ub_cX1 (f := 1) (by omega) (by omega) hm (ub_vYg hn hj (br_t rfl (br_f h0 (br_t rfl (ub_cY1 (f := 1) (by omega) (by omega) hm ⟨rfl, ub_mk (ub_ok_F ok hm) hx⟩)))))))))
      · exact ub_vXg hn hj (br_f ub_nm (br_f h0 (br_f h1 (ub_vYg hn hj (br_t rfl (br_f h0 (br_f h1 ⟨rfl, ub_mk ok hx⟩)))))))
theorem i_vc_fix {k : Nat} {u : SX} {v : SY} (I : i_Rel k u v) (hk : k + 5 ≤ 2561) (v1 : Int32) (v2 : Int32) : wpX_fix (fun r u' => wpY_fix (fun r' v' => r' = r ∧ i_Rel (k + 5) u' v') v v1 v2) u v1 v2 := by
  obtain ⟨n, c, F, fr, to, bx, ux, fx, w, L, pr, qu, rfl, rfl, ok, hx⟩ := I
  have hn := ok.2.1
  unfold wpX_fix wpY_fix
  dsimp only
  rcases ub_iv n (by omega) v1 with hb | ⟨j, hj, rfl⟩
  · exact ub_vXb hb (br_t rfl (ub_vYb hb (br_f ub_nm ⟨rfl, ub_mk ok hx⟩)))
  · by_cases h0 : v2 < 0
    · exact ub_vXg hn hj (br_f ub_nm (br_t h0 (ub_vYg hn hj (br_t rfl (br_t h0 ⟨rfl, ub_mk ok hx⟩)))))
    · by_cases h2 : v2 ≤ 2
      · obtain ⟨m, hm, rfl⟩ := nI_of2 (n := 2) (M := 2) (by decide) h0 h2
        have i1 : vp_in (nI j) 10 := vp_in_nI (by omega) (by omega)
        refine ub_vXg hn hj (br_f ub_nm (br_f h0 (br_t h2 ⟨i1, nm_e ⟨i1, nm_r (ub_wr fx m (by omega)) (ub_vYg hn hj (br_t rfl (br_f h0 (br_t h2 ⟨i1, nm_e ⟨i1, nm_r (ub_wr fx m (by omega)) ⟨rfl, ub_mk ok (ub_u_le hx hm)⟩⟩⟩))))⟩⟩)))
      · exact ub_vXg hn hj (br_f ub_nm (br_f h0 (br_f h2 (ub_vYg hn hj (br_t rfl (br_f h0 (br_f h2 ⟨rfl, ub_mk ok hx⟩)))))))
end
section
/-! flow, cut, costOf -/
theorem ub_i30 {x : Int32} (h : ¬ x < 0) (g : x ≤ 30) : ∃ m, m ≤ 30 ∧ x = nI m := nI_of2 (M := 30) (by decide) h g
theorem ub_n30 {x : Int32} (g : ¬ 30 < x) : x ≤ 30 := Int32.not_lt.mp g
theorem i_vc_flow {k : Nat} {u : SX} {v : SY} (I : i_Rel k u v) (hk : k + 5 ≤ 2561) (v1 : Int32) (v2 : Int32) (v3 : Int32) (v4 : Int32) : wpX_flow (fun r u' => wpY_flow (fun r' v' => r' = r ∧ i_Rel (k + 5) u' v') v v1 v2 v3 v4) u v1 v2 v3 v4 := by
  obtain ⟨n, c, F, fr, to, bx, ux, fx, w, L, pr, qu, rfl, rfl, ok, hx⟩ := I
  have hn := ok.2.1
  have hc := ok.2.2.1
  unfold wpX_flow wpY_flow
  dsimp only
  rcases ub_iv n (by omega) v1 with hb | ⟨j, hj, rfl⟩
  · exact ub_vXb hb (br_t rfl (ub_vYb hb (br_f ub_nm ⟨rfl, ub_mk ok hx⟩)))
  rcases ub_iv n (by omega) v2 with hb | ⟨i, hi, rfl⟩
  · exact ub_vXg hn hj (br_f ub_nm (ub_vXb hb (br_t rfl (ub_vYg hn hj (br_t rfl (ub_vYb hb (br_f ub_nm ⟨rfl, ub_mk ok hx⟩)))))))
  refine ub_vXg hn hj (br_f ub_nm (ub_vXg hn hi (br_f ub_nm ?_)))
  by_cases e : nI j = nI i
  · exact br_t e (ub_vYg hn hj (br_t rfl (ub_vYg hn hi (br_t rfl (br_t e ⟨rfl, ub_mk ok hx⟩)))))
  refine br_f e ?_
  by_cases e3 : v3 < 0
  · exact br_t e3 (ub_vYg hn hj (br_t rfl (ub_vYg hn hi (br_t rfl (br_f e (br_t e3 ⟨rfl, ub_mk ok hx⟩))))))
  refine br_f e3 ?_
  by_cases g3 : 30 < v3
  · exact br_t g3 (ub_vYg hn hj (br_t rfl (ub_vYg hn hi (br_t rfl (br_f e (br_f e3 (br_t g3 ⟨rfl, ub_mk ok hx⟩)))))))
  refine br_f g3 ?_
  by_cases e4 : v4 < 0
  · exact br_t e4 (ub_vYg hn hj (br_t rfl (ub_vYg hn hi (br_t rfl (br_f e (br_f e3 (br_f g3 (br_t e4 ⟨rfl, ub_mk ok hx⟩))))))))
  refine br_f e4 ?_
  by_cases g4 : v4 ≤ 30
  · refine br_t g4 ?_
    by_cases ec : c = 20
    · subst ec
      exact br_t rfl (ub_vYg hn hj (br_t rfl (ub_vYg hn hi (br_t rfl (br_f e (br_f e3 (br_f g3 (br_f e4 (br_t g4 (br_f (by decide) ⟨rfl, ub_mk ok hx⟩))))))))))
    · have hc20 : c < 20 := by omega
      obtain ⟨m3, hm3, rfl⟩ := ub_i30 e3 (ub_n30 g3)
      obtain ⟨m4, hm4, rfl⟩ := ub_i30 e4 g4
      have i1 : vp_in (nI c) 20 := vp_in_nI hc20 (by omega)
      have ne : ¬ nI c = 20 := fun z => ec ((nI_eq (b := 20) (by omega) (by decide)).mp z)
      have lc : c < 2 ^ 31 := by omega
      have ok' : ub_ok n (c + 1) F (ub_u fr c j) (ub_u to c i) (ub_u bx c m3) (ub_u ux c m4) := by
        obtain ⟨o1, o2, o3, o4, o5, o6, o7, o8⟩ := ok
        exact ⟨o1, o2, by omega, o4, ub_u_lt o5 hj, ub_u_lt o6 hi, ub_u_le o7 hm3, ub_u_le o8 hm4⟩
      refine br_f ne ⟨i1, nm_r (ub_wr fr j lc) ⟨i1, nm_r (ub_wr to i lc) ⟨i1, nm_r (ub_wr bx m3 lc) ⟨i1, nm_r (ub_wr ux m4 lc) (nm_r (nI_1 c) ?_)⟩⟩⟩⟩
      refine ub_vYg hn hj (br_t rfl (ub_vYg hn hi (br_t rfl (br_f e (br_f e3 (br_f g3 (br_f e4 (br_t g4 (br_t (nI_lt (b := 20) hc20 (by decide)) ?_)))))))))
      exact ⟨i1, nm_r (ub_wr fr j lc) ⟨i1, nm_r (ub_wr to i lc) ⟨i1, nm_r (ub_wr bx m3 lc) ⟨i1, nm_r (ub_wr ux m4 lc) (nm_r (nI_1 c) ⟨(nI_pred c).symm, ub_mk ok' hx⟩)⟩⟩⟩⟩
  · exact br_f g4 (ub_vYg hn hj (br_t rfl (ub_vYg hn hi (br_t rfl (br_f e (br_f e3 (br_f g3 (br_f e4 (br_f g4 ⟨rfl, ub_mk ok hx⟩)))))))))
/-! cut: both shift by one -/
def ub_sf (f : Nat → Nat) (a i : Nat) (j : Nat) : Nat := if a ≤ j ∧ j < i then f (j + 1) else f j
theorem ub_sf_0 (f : Nat → Nat) (a : Nat) : ub_sf f a a = f := by
  funext j
  unfold ub_sf
  rw [if_neg (by omega)]
theorem ub_sf_s (f : Nat → Nat) {a i : Nat} (h : a ≤ i) : ub_u (ub_sf f a i) i (ub_sf f a i (i + 1)) = ub_sf f a (i + 1) := by
  funext j
  by_cases e : j = i
  · subst e
    rw [ub_us]
    unfold ub_sf
    rw [if_neg (by omega), if_pos (by omega)]
  · rw [ub_un e]
    unfold ub_sf
    by_cases z : a ≤ j ∧ j < i
    · rw [if_pos z, if_pos (by omega)]
    · rw [if_neg z, if_neg (by omega)]
theorem ub_sf_le {f : Nat → Nat} {a i m : Nat} (h : ∀ j, f j ≤ m) : ∀ j, ub_sf f a i j ≤ m := by
  intro j
  unfold ub_sf
  split <;> exact h _
theorem ub_sf_lt {f : Nat → Nat} {a i m : Nat} (h : ∀ j, f j < m) : ∀ j, ub_sf f a i j < m := by
  intro j
  unfold ub_sf
  split <;> exact h _
theorem ub_sf_w (f : Nat → Nat) {a i : Nat} (h : a ≤ i) (hi : i < 20) : upd (ub_l (ub_sf f a i)) (nI i).toNatClampNeg (ub_l (ub_sf f a i) (nI (i + 1)).toNatClampNeg) = ub_l (ub_sf f a (i + 1)) := by
  rw [ub_rd _ (show i + 1 < 2 ^ 31 by omega), ub_wr _ _ (show i < 2 ^ 31 by omega), ub_sf_s f h]
section
variable {n c a : Nat} {F fr to bx ux : Nat → Nat} {fn fs fp : Int32} {aF aX aW aL pr qu a1 a2 : Nat → Int32}
theorem ub_x14 {post : Int32 → SX → Prop} (hc : c ≤ 20)
    (K : post (nI (c - 1)) (fn, nI (c - 1), fs, aF, ub_l (ub_sf fr a (c - 1)), ub_l (ub_sf to a (c - 1)), ub_l (ub_sf bx a (c - 1)), ub_l (ub_sf ux a (c - 1)), aX, aW, aL, pr, qu)) :
    ∀ d i N, i + d + 1 = c → a ≤ i → d < N →
      wX_cut_14 post fn (nI c) fs N (nI (i + 1)) aF (ub_l (ub_sf fr a i)) (ub_l (ub_sf to a i)) (ub_l (ub_sf bx a i)) (ub_l (ub_sf ux a i)) aX aW aL pr qu := by
  intro d
  induction d with
  | zero =>
    intro i N hi ha hN
    obtain ⟨N, rfl⟩ : ∃ M, N = M + 1 := ⟨N - 1, by omega⟩
    refine pk_le c (i + 1) (fun _ => nm_r (pk_sub (a := c) (b := 1) (by omega)) ?_) (fun h => by omega)
    rw [show i = c - 1 by omega]
    exact K
  | succ d ih =>
    intro i N hi ha hN
    obtain ⟨N, rfl⟩ : ∃ M, N = M + 1 := ⟨N - 1, by omega⟩
    have i1 : vp_in (nI (i + 1)) 20 := vp_in_nI (by omega) (by omega)
    have i2 : vp_in (nI i) 20 := vp_in_nI (by omega) (by omega)
    refine pk_le c (i + 1) (fun h => by omega) (fun _ => ?_)
    rw [nI_pred i]
    exact ⟨i1, i2, nm_r (ub_sf_w fr ha (by omega)) ⟨i1, i2, nm_r (ub_sf_w to ha (by omega)) ⟨i1, i2, nm_r (ub_sf_w bx ha (by omega)) ⟨i1, i2, nm_r (ub_sf_w ux ha (by omega)) (nm_r (nI_1 (i + 1)) (ih (i + 1) N (by omega) (by omega) (by omega)))⟩⟩⟩⟩
theorem ub_y12 {post : Int32 → SY → Prop} (hc : c ≤ 20)
    (K : post (nI (c - 1)) (fn, fp, nI (c - 1), a1, a2, ub_l (ub_sf fr a (c - 1)), ub_l (ub_sf to a (c - 1)), ub_l (ub_sf bx a (c - 1)), ub_l (ub_sf ux a (c - 1)))) :
    ∀ d i N, i + d + 1 = c → a ≤ i → d < N →
      wY_cut_12 post fn fp (nI c) N (nI i) a1 a2 (ub_l (ub_sf fr a i)) (ub_l (ub_sf to a i)) (ub_l (ub_sf bx a i)) (ub_l (ub_sf ux a i)) := by
  intro d
  have hs : ∀ i : Nat, i + 1 ≤ c → nI c - 1 = nI (c - 1) := fun i h => pk_sub (a := c) (b := 1) (by omega)
  induction d with
  | zero =>
    intro i N hi ha hN
    obtain ⟨N, rfl⟩ : ∃ M, N = M + 1 := ⟨N - 1, by omega⟩
    refine pk_le (c - 1) i (fun _ => nm_r (hs i (by omega)) ?_) (fun h => by omega) (hs i (by omega))
    rw [show i = c - 1 by omega]
    exact K
  | succ d ih =>
    intro i N hi ha hN
    obtain ⟨N, rfl⟩ : ∃ M, N = M + 1 := ⟨N - 1, by omega⟩
    have i1 : vp_in (nI (i + 1)) 20 := vp_in_nI (by omega) (by omega)
    have i2 : vp_in (nI i) 20 := vp_in_nI (by omega) (by omega)
    refine pk_le (c - 1) i (fun h => by omega) (fun _ => pk_le 19 i (fun h => by omega) (fun _ => ?_)) (hs i (by omega))
    rw [nI_1 i]
    exact ⟨i1, i2, nm_r (ub_sf_w fr ha (by omega)) ⟨i1, i2, nm_r (ub_sf_w to ha (by omega)) ⟨i1, i2, nm_r (ub_sf_w bx ha (by omega)) ⟨i1, i2, nm_r (ub_sf_w ux ha (by omega)) (nm_e (ih (i + 1) N (by omega) (by omega) (by omega)))⟩⟩⟩⟩
end
theorem i_vc_cut {k : Nat} {u : SX} {v : SY} (I : i_Rel k u v) (hk : k + 5 ≤ 2561) (v1 : Int32) : wpX_cut (fun r u' => wpY_cut (fun r' v' => r' = r ∧ i_Rel (k + 5) u' v') v v1) u v1 := by
  obtain ⟨n, c, F, fr, to, bx, ux, fx, w, L, pr, qu, rfl, rfl, ok, hx⟩ := I
  have hc := ok.2.2.1
  unfold wpX_cut wpY_cut
  dsimp only
  rcases ub_iv c (by omega) v1 with hb | ⟨a, ha, rfl⟩
  · exact ub_fXb hb (br_t rfl (ub_fYb hb (br_f ub_nm ⟨rfl, ub_mk ok hx⟩)))
  refine ub_fXg hc ha (br_f ub_nm (nm_r (nI_1 a) ⟨c + 1, ?_⟩))
  have ok' : ub_ok n (c - 1) F (ub_sf fr a (c - 1)) (ub_sf to a (c - 1)) (ub_sf bx a (c - 1)) (ub_sf ux a (c - 1)) := by
    obtain ⟨o1, o2, o3, o4, o5, o6, o7, o8⟩ := ok
    exact ⟨o1, o2, by omega, o4, ub_sf_lt o5, ub_sf_lt o6, ub_sf_le o7, ub_sf_le o8⟩
  have X := ub_x14 (post := fun r u' => wpY_badFlow (fun r_1 => (r_1 = 0 → ∃ n12, wY_cut_12 (fun r' v' => r' = r ∧ i_Rel (k + 5) u' v') (nI n) (nI (2 ^ n)) (nI c) n12 (nI a) (ub_l F) (ub_l fx) (ub_l fr) (ub_l to) (ub_l bx) (ub_l ux)) ∧ (¬ r_1 = 0 → (-1 : Int32) = r ∧ i_Rel (k + 5) u' (nI n, nI (2 ^ n), nI c, ub_l F, ub_l fx, ub_l fr, ub_l to, ub_l bx, ub_l ux))) (nI n, nI (2 ^ n), nI c, ub_l F, ub_l fx, ub_l fr, ub_l to, ub_l bx, ub_l ux) (nI a))
    (a := a) (fr := fr) (to := to) (bx := bx) (ux := ux) (fn := nI n) (fs := -1) (aF := ub_l F) (aX := ub_l fx) (aW := ub_l w) (aL := ub_l L) (pr := pr) (qu := qu) hc ?_ (c - 1 - a) a (c + 1) (by omega) (by omega) (by omega)
  · rw [ub_sf_0, ub_sf_0, ub_sf_0, ub_sf_0] at X
    exact X
  · refine ub_fYg hc ha (br_t rfl ⟨c + 1, ?_⟩)
    have Y := ub_y12 (post := fun r' v' => r' = nI (c - 1) ∧ i_Rel (k + 5) (nI n, nI (c - 1), -1, ub_l F, ub_l (ub_sf fr a (c - 1)), ub_l (ub_sf to a (c - 1)), ub_l (ub_sf bx a (c - 1)), ub_l (ub_sf ux a (c - 1)), ub_l fx, ub_l w, ub_l L, pr, qu) v')
      (a := a) (fr := fr) (to := to) (bx := bx) (ux := ux) (fn := nI n) (fp := nI (2 ^ n)) (a1 := ub_l F) (a2 := ub_l fx) hc ⟨rfl, ub_mk ok' hx⟩ (c - 1 - a) a (c + 1) (by omega) (by omega) (by omega)
    rw [ub_sf_0, ub_sf_0, ub_sf_0, ub_sf_0] at Y
    exact Y
/-! costOf -/
section
variable {n c : Nat} {F fr to bx ux : Nat → Nat} {fs : Int32} {aX aW aL pr qu : Nat → Int32}
theorem ub_x47 {post : Int32 → Prop} {p S : Nat} (ok : ub_ok n c F fr to bx ux) (hp : p < 2 ^ 31)
    (K : post (nI (S + ub_s (ub_fc fr to bx ux (-1) p.testBit) c))) :
    ∀ d f N, f + d = c → d < N →
      wX_costOf_47 post (nI p) (nI n) (nI c) fs (ub_l F) (ub_l fr) (ub_l to) (ub_l bx) (ub_l ux) aX aW aL pr qu N (nI (S + ub_s (ub_fc fr to bx ux (-1) p.testBit) f)) (nI f) := by
  obtain ⟨_, hn, hc, _, hfr, hto, hbx, hux⟩ := ok
  intro d
  induction d with
  | zero =>
    intro f N hf hN
    obtain ⟨N, rfl⟩ : ∃ M, N = M + 1 := ⟨N - 1, by omega⟩
    refine pk_le c f (fun _ => ?_) (fun h => by omega)
    rw [show f = c by omega]
    exact K
  | succ d ih =>
    intro f N hf hN
    obtain ⟨N, rfl⟩ : ∃ M, N = M + 1 := ⟨N - 1, by omega⟩
    have r1 := hfr f
    have r2 := hto f
    have i1 : vp_in (nI f) 20 := vp_in_nI (by omega) (by omega)
    have IH := ih (f + 1) N (by omega) (by omega)
    have es : ub_s (ub_fc fr to bx ux (-1) p.testBit) (f + 1) = ub_s (ub_fc fr to bx ux (-1) p.testBit) f + ub_fc fr to bx ux (-1) p.testBit f := rfl
    have ev : ub_fc fr to bx ux (-1) p.testBit f = if p.testBit (fr f) = p.testBit (to f) then 0 else if p.testBit (fr f) = false then bx f else ux f := if_neg (ub_m1 (by omega))
    rw [es, ev] at IH
    generalize hs : ub_s (ub_fc fr to bx ux (-1) p.testBit) f = s at IH
    refine pk_le c f (fun h => by omega) (fun _ => ⟨i1, ?_⟩)
    rw [ub_rd fr (show f < 2 ^ 31 by omega), ub_rd to (show f < 2 ^ 31 by omega), ub_rd bx (show f < 2 ^ 31 by omega), ub_rd ux (show f < 2 ^ 31 by omega),
      ub_bit hp (show fr f < 32 by omega), ub_bit hp (show to f < 32 by omega)]
    refine nm_e ⟨i1, nm_e ?_⟩
    cases ha : p.testBit (fr f) <;> cases hb : p.testBit (to f) <;> rw [ha, hb] at IH
    · exact br_t rfl (nm_r (nI_1 f) IH)
    · refine br_f (by decide) (br_t rfl ⟨i1, nm_r (nI_add _ _) (nm_r (nI_1 f) ?_)⟩)
      rw [Nat.add_assoc]
      exact IH
    · refine br_f (by decide) (br_f (by decide) ⟨i1, nm_r (nI_add _ _) (nm_r (nI_1 f) ?_)⟩)
      rw [Nat.add_assoc]
      exact IH
    · exact br_t rfl (nm_r (nI_1 f) IH)
theorem ub_xc14 {post : Int32 → Prop} {p : Nat} (ok : ub_ok n c F fr to bx ux) (hp : p < 2 ^ 31)
    (K : post (nI (ub_tot n c F fr to bx ux (-1) p.testBit))) :
    ∀ d v N, v + d = n → d < N →
      wX_costOf_14 post (nI p) (nI n) (nI c) fs (ub_l F) (ub_l fr) (ub_l to) (ub_l bx) (ub_l ux) aX aW aL pr qu N (nI (ub_s (fun v => F (2 * v + (p.testBit v).toNat)) v)) (nI v) := by
  have hn := ok.2.1
  intro d
  induction d with
  | zero =>
    intro v N hv hN
    obtain ⟨N, rfl⟩ : ∃ M, N = M + 1 := ⟨N - 1, by omega⟩
    refine pk_le n v (fun _ => ⟨c + 1, ?_⟩) (fun h => by omega)
    rw [show v = n by omega]
    exact ub_x47 ok hp K c 0 (c + 1) (by omega) (by omega)
  | succ d ih =>
    intro v N hv hN
    obtain ⟨N, rfl⟩ : ∃ M, N = M + 1 := ⟨N - 1, by omega⟩
    have hb := ub_bl (p.testBit v)
    have IH := ih (v + 1) N (by omega) (by omega)
    refine pk_le n v (fun h => by omega) (fun _ => ?_)
    rw [ub_bit hp (show v < 32 by omega), ub_ix2, ub_rd F (show 2 * v + (p.testBit v).toNat < 2 ^ 31 by omega)]
    exact ⟨vp_in_nI (by omega) (by omega), nm_r (nI_add _ _) (nm_r (nI_1 v) IH)⟩
theorem ub_costOf {post : Int32 → Prop} {p : Nat} (ok : ub_ok n c F fr to bx ux) (hp : p < 2 ^ n)
    (K : post (nI (ub_tot n c F fr to bx ux (-1) p.testBit))) :
    wpX_costOf post (nI n, nI c, fs, ub_l F, ub_l fr, ub_l to, ub_l bx, ub_l ux, aX, aW, aL, pr, qu) (nI p) := by
  have h2 := ub_2n ok.2.1
  unfold wpX_costOf
  dsimp only
  exact ub_pXg ok.2.1 hp (br_f ub_nm ⟨n + 1, ub_xc14 ok (by omega) K n 0 (n + 1) (by omega) (by omega)⟩)
end
theorem i_vc_costOf {k : Nat} {u : SX} {v : SY} (I : i_Rel k u v) (hk : k + 5 ≤ 2561) (v1 : Int32) : wpX_costOf (fun r => wpY_costOf (fun r' => r' = r ∧ i_Rel (k + 5) u v) v v1) u v1 := by
  obtain ⟨n, c, F, fr, to, bx, ux, fx, w, L, pr, qu, rfl, rfl, ok, hx⟩ := I
  have hn := ok.2.1
  have h2 := ub_2n hn
  rcases ub_iv (2 ^ n) (by omega) v1 with hb | ⟨p, hp, rfl⟩
  · unfold wpX_costOf wpY_costOf
    dsimp only
    refine ub_pXb hn hb (br_t rfl ?_)
    rcases hb with h | ⟨h, g⟩
    · exact br_t h ⟨rfl, ub_mk ok hx⟩
    · exact br_f h (br_f (fun z => Int32.lt_irrefl (Int32.lt_of_lt_of_le z g)) ⟨rfl, ub_mk ok hx⟩)
  · refine ub_costOf ok hp ?_
    unfold wpY_costOf
    dsimp only
    exact br_f (nI_pos (by omega)) (br_t (nI_lt hp (by omega)) (ub_total ok (by omega) ⟨rfl, ub_mk ok hx⟩))
end
section
/-! the methods over solve -/
theorem ub_mf_w {n c : Nat} {F fr to bx ux w w' : Nat → Nat} {sk : Int32} {L : Nat → Nat} {t : Nat} (e : ∀ j, j < n → w j = w' j) (h : ub_mf n c F fr to bx ux w sk L t) :
    ub_mf n c F fr to bx ux w' sk L t := by
  refine ⟨h.1, fun b h0 h1 => ?_, h.2.2⟩
  rw [h.2.1 b h0 h1]
  unfold ub_net
  rw [ub_s_congr n (f := ub_cp w F b) (g := ub_cp w' F b) (fun j hj => by unfold ub_cp; rw [e j hj])]
theorem i_vc_best {k : Nat} {u : SX} {v : SY} (I : i_Rel k u v) (hk : k + 5 ≤ 2561) : wpX_best (fun r u' => wpY_best (fun r' => r' = r ∧ i_Rel (k + 5) u' v) v) u := by
  obtain ⟨n, c, F, fr, to, bx, ux, fx, w, L, pr, qu, rfl, rfl, ok, hx⟩ := I
  have hn := ok.2.1
  have h2 := ub_2n hn
  unfold wpX_best wpY_best
  dsimp only
  refine ub_take hn (fun w hw => ?_)
  refine ub_solve ok (fun j hj => by rw [hw j hj]; exact hx j) (fun t L pr qu hm => ?_)
  have hm' := ub_mf_w hw hm
  refine ub_least ok hx h2 (fun r hr => ⟨ub_mn_uq hr (ub_mf_mn ok hm' (-1)), ub_mk ok hx⟩)
theorem i_vc_fewestBoxed {k : Nat} {u : SX} {v : SY} (I : i_Rel k u v) (hk : k + 5 ≤ 2561) : wpX_fewestBoxed (fun r u' => wpY_fewestBoxed (fun r' => r' = r ∧ i_Rel (k + 5) u' v) v) u := by
  obtain ⟨n, c, F, fr, to, bx, ux, fx, w, L, pr, qu, rfl, rfl, ok, hx⟩ := I
  have hn := ok.2.1
  unfold wpX_fewestBoxed wpY_fewestBoxed
  dsimp only
  refine ub_take hn (fun w hw => ?_)
  refine ub_solve ok (fun j hj => by rw [hw j hj]; exact hx j) (fun t L pr qu hm => ?_)
  have hm' := ub_mf_w hw hm
  have ht := ub_mf_t ok hm'
  refine ub_reach ok hm' (fun r hr => ?_)
  exact ub_common ok hx (by omega) (ub_mf_mn ok hm' (-1)) (fun r' hr' => ⟨congrArg nI (ub_cm_uq hr' hr), ub_mk ok hx⟩)
theorem i_vc_mostBoxed {k : Nat} {u : SX} {v : SY} (I : i_Rel k u v) (hk : k + 5 ≤ 2561) : wpX_mostBoxed (fun r u' => wpY_mostBoxed (fun r' => r' = r ∧ i_Rel (k + 5) u' v) v) u := by
  obtain ⟨n, c, F, fr, to, bx, ux, fx, w, L, pr, qu, rfl, rfl, ok, hx⟩ := I
  have hn := ok.2.1
  unfold wpX_mostBoxed wpY_mostBoxed
  dsimp only
  refine ub_take hn (fun w hw => ?_)
  refine ub_solve ok (fun j hj => by rw [hw j hj]; exact hx j) (fun t L pr qu hm => ?_)
  have hm' := ub_mf_w hw hm
  have ht := ub_mf_t ok hm'
  refine ub_nfs ok hm' (fun r pr qu hr => ?_)
  exact ub_some ok hx (by omega) (ub_mf_mn ok hm' (-1)) (fun r' hr' => ⟨congrArg nI (ub_sm_uq hr' hr), ub_mk ok hx⟩)
theorem i_vc_settled {k : Nat} {u : SX} {v : SY} (I : i_Rel k u v) (hk : k + 5 ≤ 2561) (v1 : Int32) : wpX_settled (fun r u' => wpY_settled (fun r' => r' = r ∧ i_Rel (k + 5) u' v) v v1) u v1 := by
  obtain ⟨n, c, F, fr, to, bx, ux, fx, w, L, pr, qu, rfl, rfl, ok, hx⟩ := I
  have hn := ok.2.1
  have h2 := ub_2n hn
  unfold wpX_settled wpY_settled
  dsimp only
  rcases ub_iv n (by omega) v1 with hb | ⟨j, hj, rfl⟩
  · exact ub_vXb hb (br_t rfl (ub_vYb hb (br_f ub_nm ⟨rfl, ub_mk ok hx⟩)))
  refine ub_vXg hn hj (br_f ub_nm ?_)
  refine ub_take hn (fun w hw => ?_)
  refine ub_solve ok (fun j hj => by rw [hw j hj]; exact hx j) (fun t L pr qu hm => ?_)
  have hm' := ub_mf_w hw hm
  have ht := ub_mf_t ok hm'
  have mn := ub_mf_mn ok hm' (-1)
  refine ub_reach ok hm' (fun r hr => ?_)
  have hr1 := ub_cm_lt hr
  rw [ub_bit (show r < 2 ^ 31 by omega) (show j < 32 by omega)]
  cases e : r.testBit j
  · refine br_f (by decide) (ub_nfs ok hm' (fun s pr qu hs => ?_))
    have hs1 := ub_sm_lt (n := n) hs (Nat.le_refl _)
    dsimp only
    rw [ub_bit (show s < 2 ^ 31 by omega) (show j < 32 by omega)]
    cases e2 : s.testBit j
    · refine br_f (by decide) (ub_vYg hn hj (br_t rfl (ub_common ok hx (by omega) mn (fun r' hr' => ub_some ok hx (by omega) mn (fun s' hs' => ?_)))))
      cases ub_cm_uq hr' hr
      cases ub_sm_uq hs' hs
      refine ub_form (by omega) (by omega) ?_
      rw [e]
      refine br_f (by decide) (ub_form (by omega) (by omega) ?_)
      rw [e2]
      exact br_t rfl ⟨rfl, ub_mk ok hx⟩
    · refine br_t rfl (ub_vYg hn hj (br_t rfl (ub_common ok hx (by omega) mn (fun r' hr' => ub_some ok hx (by omega) mn (fun s' hs' => ?_)))))
      cases ub_cm_uq hr' hr
      cases ub_sm_uq hs' hs
      refine ub_form (by omega) (by omega) ?_
      rw [e]
      refine br_f (by decide) (ub_form (by omega) (by omega) ?_)
      rw [e2]
      exact br_f (by decide) ⟨rfl, ub_mk ok hx⟩
  · refine br_t rfl (ub_vYg hn hj (br_t rfl (ub_common ok hx (by omega) mn (fun r' hr' => ub_some ok hx (by omega) mn (fun s' hs' => ?_)))))
    cases ub_cm_uq hr' hr
    refine ub_form (by omega) (by omega) ?_
    rw [e]
    exact br_t rfl ⟨rfl, ub_mk ok hx⟩
theorem i_vc_saving {k : Nat} {u : SX} {v : SY} (I : i_Rel k u v) (hk : k + 5 ≤ 2561) (v1 : Int32) : wpX_saving (fun r u' => wpY_saving (fun r' => r' = r ∧ i_Rel (k + 5) u' v) v v1) u v1 := by
  obtain ⟨n, c, F, fr, to, bx, ux, fx, w, L, pr, qu, rfl, rfl, ok, hx⟩ := I
  have hn := ok.2.1
  have hc := ok.2.2.1
  have h2 := ub_2n hn
  unfold wpX_saving wpY_saving
  dsimp only
  rcases ub_iv c (by omega) v1 with hb | ⟨a, ha, rfl⟩
  · exact ub_fXb hb (br_t rfl (ub_fYb hb (br_f ub_nm ⟨rfl, ub_mk ok hx⟩)))
  refine ub_fXg hc ha (br_f ub_nm ?_)
  refine ub_take hn (fun w hw => ?_)
  have hw2 : ∀ j, j < n → w j ≤ 2 := fun j hj => by rw [hw j hj]; exact hx j
  refine ub_solve ok hw2 (fun t L pr qu hm => ?_)
  refine ub_solve ok hw2 (fun t' L pr qu hm' => ?_)
  refine ub_fYg hc ha (br_t rfl (ub_least ok hx h2 (fun r hr => ub_least ok hx h2 (fun r' hr' => ⟨?_, ub_mk ok hx⟩))))
  rw [ub_mn_uq hr (ub_mf_mn ok (ub_mf_w hw hm) (-1)), ub_mn_uq hr' (ub_mf_mn ok (ub_mf_w hw hm') (-1))]
section
variable {n c : Nat} {fx : Nat → Nat} {fc fs : Int32} {aF aR aT aB aU aW aL pr qu : Nat → Int32}
/-- isBest's own look at the fixed values, its end held apart -/
theorem ub_ib {post : Int32 → SX → Prop} {p : Nat} (hn : n ≤ 10) (hx : ∀ j, fx j ≤ 2) (hp : p < 2 ^ 31)
    (K1 : ub_ag fx n p.testBit → ∀ N, wX_isBest_12 post (nI p) (nI n) fc fs aF aR aT aB aU (ub_l fx) aW aL pr qu (N + 1) (nI n))
    (K0 : ¬ ub_ag fx n p.testBit → post 0 (nI n, fc, fs, aF, aR, aT, aB, aU, ub_l fx, aW, aL, pr, qu)) :
    ∀ d v N, v + d = n → (∀ j, j < v → (fx j = 0 → p.testBit j = false) ∧ (fx j = 1 → p.testBit j = true)) → d < N →
      wX_isBest_12 post (nI p) (nI n) fc fs aF aR aT aB aU (ub_l fx) aW aL pr qu N (nI v) := by
  intro d
  induction d with
  | zero =>
    intro v N hv h hN
    obtain ⟨N, rfl⟩ : ∃ M, N = M + 1 := ⟨N - 1, by omega⟩
    rw [show v = n by omega]
    exact K1 (fun j hj => h j (by omega)) N
  | succ d ih =>
    intro v N hv h hN
    obtain ⟨N, rfl⟩ : ∃ M, N = M + 1 := ⟨N - 1, by omega⟩
    have hb := ub_bl (p.testBit v)
    have hxv := hx v
    have i1 : vp_in (nI v) 10 := vp_in_nI (by omega) (by omega)
    have st : (fx v = 2 ∨ fx v = (p.testBit v).toNat) → wX_isBest_12 post (nI p) (nI n) fc fs aF aR aT aB aU (ub_l fx) aW aL pr qu N (nI (v + 1)) := by
      intro hh
      refine ih (v + 1) N (by omega) (fun j hj => ?_) (by omega)
      by_cases e : j = v
      · subst e; exact (ub_ag1 hxv).mpr hh
      · exact h j (by omega)
    refine pk_le n v (fun h => by omega) (fun _ => ⟨i1, ?_⟩)
    rw [ub_rd fx (show v < 2 ^ 31 by omega), ub_bit hp (show v < 32 by omega)]
    refine pk_eq (fx v) 2 (fun e => nm_r (nI_1 v) (st (Or.inl e))) (fun ne => ⟨i1, ?_⟩)
    refine pk_eq (fx v) (p.testBit v).toNat (fun e => nm_r (nI_1 v) (st (Or.inr e))) (fun ne2 => K0 (fun z => ?_))
    rcases (ub_ag1 hxv).mp (z v (by omega)) with z | z
    · exact ne z
    · exact ne2 z
end
theorem i_vc_isBest {k : Nat} {u : SX} {v : SY} (I : i_Rel k u v) (hk : k + 5 ≤ 2561) (v1 : Int32) : wpX_isBest (fun r u' => wpY_isBest (fun r' => r' = r ∧ i_Rel (k + 5) u' v) v v1) u v1 := by
  obtain ⟨n, c, F, fr, to, bx, ux, fx, w, L, pr, qu, rfl, rfl, ok, hx⟩ := I
  have hn := ok.2.1
  have h2 := ub_2n hn
  unfold wpX_isBest wpY_isBest
  dsimp only
  rcases ub_iv (2 ^ n) (by omega) v1 with hb | ⟨p, hp, rfl⟩
  · refine ub_pXb hn hb (br_t rfl ?_)
    rcases hb with h | ⟨h, g⟩
    · exact br_t h ⟨rfl, ub_mk ok hx⟩
    · exact br_f h (br_f (fun z => Int32.lt_irrefl (Int32.lt_of_lt_of_le z g)) ⟨rfl, ub_mk ok hx⟩)
  have l1 : ¬ nI p < 0 := nI_pos (by omega)
  have l2 : nI p < nI (2 ^ n) := nI_lt hp (by omega)
  refine ub_pXg hn hp (br_f ub_nm ⟨n + 1, ub_ib hn hx (by omega) (fun ha N => ?_) (fun ha => ?_) n 0 (n + 1) (by omega) (fun j hj => by omega) (by omega)⟩)
  · refine br_t (nI_le (Nat.le_refl n) (by omega)) ?_
    refine ub_take hn (fun w hw => ?_)
    refine ub_solve ok (fun j hj => by rw [hw j hj]; exact hx j) (fun t L pr qu hm => ?_)
    have hm' := ub_mf_w hw hm
    have mn := ub_mf_mn ok hm' (-1)
    refine ub_costOf ok hp ?_
    refine br_c (fun e => ?_) (fun e => ?_)
    · refine br_f l1 (br_t l2 (ub_least ok hx h2 (fun r hr => ub_allowed hn hx (by omega) (fun _ => br_f ub_nm (ub_total ok (by omega) ?_)) (fun z => absurd ha z))))
      cases ub_mn_uq mn hr
      exact br_t e ⟨rfl, ub_mk ok hx⟩
    · refine br_f l1 (br_t l2 (ub_least ok hx h2 (fun r hr => ub_allowed hn hx (by omega) (fun _ => br_f ub_nm (ub_total ok (by omega) ?_)) (fun z => absurd ha z))))
      cases ub_mn_uq mn hr
      exact br_f e ⟨rfl, ub_mk ok hx⟩
  · exact br_f l1 (br_t l2 (ub_least ok hx h2 (fun r hr => ub_allowed hn hx (by omega) (fun z => absurd z ha) (fun _ => br_t rfl ⟨rfl, ub_mk ok hx⟩))))
end
section
/-! settledCount, bestWith -/
theorem ub_s_one {f g : Nat → Nat} : ∀ n, (∀ j, j < n → f j + g j = 1) → ub_s f n + ub_s g n = n := by
  intro n
  induction n with
  | zero => intro _; rfl
  | succ n ih =>
    intro h
    have h1 := ih (fun j hj => h j (by omega))
    have h2 := h n (by omega)
    show ub_s f n + f n + (ub_s g n + g n) = n + 1
    omega
theorem ub_open (s r : Nat) : nI s &&& (nI r ^^^ (-1)) = nI (s &&& (r ^^^ 4294967295)) := by
  have e1 : (-1 : Int32) = nI 4294967295 := by decide
  rw [e1, nx_xor, nx_and]
theorem ub_open_bit (s r : Nat) {v : Nat} (hv : v < 32) : (s &&& (r ^^^ 4294967295)).testBit v = (s.testBit v && !r.testBit v) := by
  have e : Nat.testBit 4294967295 v = true := by
    have := Nat.testBit_two_pow_sub_one 32 v
    rw [decide_eq_true hv] at this
    exact this
  rw [Nat.testBit_and, Nat.testBit_xor, e, Bool.xor_true]
section
variable {n : Nat} {fc fs : Int32} {aF aR aT aB aU aX aW aL pr qu : Nat → Int32}
theorem ub_x28 {post : Int32 → SX → Prop} {O : Nat} (hn : n ≤ 10) (hO : O < 2 ^ 31)
    (K : post (nI (n - ub_s (fun v => (O.testBit v).toNat) n)) (nI n, fc, fs, aF, aR, aT, aB, aU, aX, aW, aL, pr, qu)) :
    ∀ d i N, i + d = n → d < N →
      wX_settledCount_28 post (nI O) (nI n) fc fs aF aR aT aB aU aX aW aL pr qu N (nI (n - ub_s (fun v => (O.testBit v).toNat) i)) (nI i) := by
  intro d
  induction d with
  | zero =>
    intro i N hi hN
    obtain ⟨N, rfl⟩ : ∃ M, N = M + 1 := ⟨N - 1, by omega⟩
    refine pk_le n i (fun _ => ?_) (fun h => by omega)
    rw [show i = n by omega]
    exact K
  | succ d ih =>
    intro i N hi hN
    obtain ⟨N, rfl⟩ : ∃ M, N = M + 1 := ⟨N - 1, by omega⟩
    have IH := ih (i + 1) N (by omega) (by omega)
    have h1 := ub_s_le (f := fun v => (O.testBit v).toNat) (m := 1) i (fun j _ => ub_bl1 _)
    have h2 := ub_bl1 (O.testBit i)
    have es : ub_s (fun v => (O.testBit v).toNat) (i + 1) = ub_s (fun v => (O.testBit v).toNat) i + (O.testBit i).toNat := rfl
    rw [es, ← Nat.sub_sub] at IH
    refine pk_le n i (fun h => by omega) (fun _ => ?_)
    rw [ub_bit hO (show i < 32 by omega)]
    exact nm_r (pk_sub (by omega)) (nm_r (nI_1 i) IH)
variable {fp : Int32} {a1 a2 a3 a4 a5 a6 : Nat → Int32}
theorem ub_y15 {post : Int32 → Prop} {r s : Nat} (hn : n ≤ 10) (hr : r < 2 ^ 31) (hs : s < 2 ^ 31)
    (K : post (nI (ub_s (fun v => if r.testBit v = s.testBit v then 1 else 0) n))) :
    ∀ d i N, i + d = n → d < N →
      wY_settledCount_15 post (nI r) (nI s) (nI n) fp fc a1 a2 a3 a4 a5 a6 N (nI (ub_s (fun v => if r.testBit v = s.testBit v then 1 else 0) i)) (nI i) := by
  intro d
  induction d with
  | zero =>
    intro i N hi hN
    obtain ⟨N, rfl⟩ : ∃ M, N = M + 1 := ⟨N - 1, by omega⟩
    refine pk_le n i (fun _ => ?_) (fun h => by omega)
    rw [show i = n by omega]
    exact K
  | succ d ih =>
    intro i N hi hN
    obtain ⟨N, rfl⟩ : ∃ M, N = M + 1 := ⟨N - 1, by omega⟩
    have IH := ih (i + 1) N (by omega) (by omega)
    have es : ub_s (fun v => if r.testBit v = s.testBit v then 1 else 0) (i + 1) = ub_s (fun v => if r.testBit v = s.testBit v then 1 else 0) i + (if r.testBit i = s.testBit i then 1 else 0) := rfl
    rw [es] at IH
    have b1 := ub_bl (r.testBit i)
    have b2 := ub_bl (s.testBit i)
    have hinj : (r.testBit i).toNat = (s.testBit i).toNat → r.testBit i = s.testBit i := by
      cases r.testBit i <;> cases s.testBit i <;> simp
    refine pk_le n i (fun h => by omega) (fun _ => ub_form hr (by omega) (ub_form hs (by omega) ?_))
    refine pk_eq (r.testBit i).toNat (s.testBit i).toNat (fun e => nm_r (nI_1 _) (nm_r (nI_1 i) ?_)) (fun e => nm_r (nI_1 i) ?_)
    · rw [if_pos (hinj e)] at IH
      exact IH
    · rw [if_neg (fun z => e (by rw [z]))] at IH
      exact IH
end
theorem i_vc_settledCount {k : Nat} {u : SX} {v : SY} (I : i_Rel k u v) (hk : k + 5 ≤ 2561) : wpX_settledCount (fun r u' => wpY_settledCount (fun r' => r' = r ∧ i_Rel (k + 5) u' v) v) u := by
  obtain ⟨n, c, F, fr, to, bx, ux, fx, w, L, pr, qu, rfl, rfl, ok, hx⟩ := I
  have hn := ok.2.1
  have h2 := ub_2n hn
  unfold wpX_settledCount wpY_settledCount
  dsimp only
  refine ub_take hn (fun w hw => ?_)
  refine ub_solve ok (fun j hj => by rw [hw j hj]; exact hx j) (fun t L pr qu hm => ?_)
  have hm' := ub_mf_w hw hm
  have ht := ub_mf_t ok hm'
  have mn := ub_mf_mn ok hm' (-1)
  refine ub_nfs ok hm' (fun s pr qu hs => ?_)
  refine ub_reach ok hm' (fun r hr => nm_r (ub_open s r) ⟨n + 1, ?_⟩)
  have hr1 := ub_cm_lt hr
  have hs1 := ub_sm_lt (n := n) hs (Nat.le_refl _)
  have hO : s &&& (r ^^^ 4294967295) < 2 ^ 31 := by
    have : s &&& (r ^^^ 4294967295) ≤ s := Nat.and_le_left
    omega
  refine ub_x28 hn hO ?_ n 0 (n + 1) (by omega) (by omega)
  refine ub_common ok hx (by omega) mn (fun r' hr' => ub_some ok hx (by omega) mn (fun s' hs' => ⟨n + 1, ?_⟩))
  cases ub_cm_uq hr' hr
  cases ub_sm_uq hs' hs
  refine ub_y15 hn (by omega) (by omega) ⟨congrArg nI ?_, ub_mk ok hx⟩ n 0 (n + 1) (by omega) (by omega)
  have key := ub_s_one (f := fun v => if r.testBit v = s.testBit v then 1 else 0) (g := fun v => ((s &&& (r ^^^ 4294967295)).testBit v).toNat) n (fun j hj => by
    have hsub : r.testBit j = true → s.testBit j = true := by
      intro hb
      obtain ⟨b, h0, h1, hz⟩ := hm'.2.2
      obtain ⟨ha, he⟩ := ub_mf_cl ok hm' h0 h1 (ub_cv_cl hz)
      have hb' := ((hr j).mp hb).2 (ub_pl b n) (ub_pl_lt b n) (ub_pl_ag ha) (by dsimp only; rw [ub_pl_tot ok, he])
      exact (hs j).mpr ⟨ub_pl b n, ub_pl_lt b n, ub_pl_ag ha, by dsimp only; rw [ub_pl_tot ok, he], hb'⟩
    rw [ub_open_bit s r (show j < 32 by omega)]
    cases e1 : r.testBit j
    · cases e2 : s.testBit j <;> rfl
    · rw [hsub e1]; rfl)
  omega
/-! bestWith -/
theorem ub_ag_u {fx : Nat → Nat} {n j f : Nat} {b : Nat → Bool} (hx : fx j ≤ 2) (hj : j < n) (hf : f ≤ 1) (h : fx j = 2 ∨ fx j = f) :
    ub_ag (ub_u fx j f) n b ↔ ub_ag fx n b ∧ (b j).toNat = f := by
  constructor
  · intro a
    have a1 : f = 2 ∨ f = (b j).toNat := by
      have := a j hj
      rw [ub_us] at this
      exact (ub_ag1 (by omega)).mp this
    have a2 : (b j).toNat = f := by omega
    refine ⟨fun v hv => ?_, a2⟩
    by_cases e : v = j
    · subst e
      refine (ub_ag1 hx).mpr ?_
      omega
    · have := a v hv
      rw [ub_un e] at this
      exact this
  · rintro ⟨a, a2⟩ v hv
    by_cases e : v = j
    · subst e
      rw [ub_us]
      exact (ub_ag1 (by omega)).mpr (Or.inr a2.symm)
    · rw [ub_un e]
      exact a v hv
section
variable {n P c : Nat} {F fr to bx ux fx : Nat → Nat}
theorem ub_yw28 {post : Int32 → Prop} {j f : Nat} (ok : ub_ok n c F fr to bx ux) (hx : ∀ j, fx j ≤ 2) (hP : P ≤ 1024) (hj : j < n) (hf : f ≤ 1)
    (K : ∀ r, ub_mn (fun p => ub_ag fx n p.testBit ∧ (p.testBit j).toNat = f) (fun p => ub_tot n c F fr to bx ux (-1) p.testBit) P (-3) r → post r) :
    ∀ d p r N, p + d = P → ub_mn (fun p => ub_ag fx n p.testBit ∧ (p.testBit j).toNat = f) (fun p => ub_tot n c F fr to bx ux (-1) p.testBit) p (-3) r → d < N →
      wY_bestWith_28 post (nI j) (nI f) (nI n) (nI P) (nI c) (ub_l F) (ub_l fx) (ub_l fr) (ub_l to) (ub_l bx) (ub_l ux) N r (nI p) := by
  have hn := ok.2.1
  intro d
  induction d with
  | zero =>
    intro p r N hp h hN
    obtain ⟨N, rfl⟩ : ∃ M, N = M + 1 := ⟨N - 1, by omega⟩
    refine pk_le P p (fun _ => K r ?_) (fun h => by omega)
    rw [show P = p by omega]
    exact h
  | succ d ih =>
    intro p r N hp h hN
    obtain ⟨N, rfl⟩ : ∃ M, N = M + 1 := ⟨N - 1, by omega⟩
    have hb := ub_bl (p.testBit j)
    refine pk_le P p (fun h => by omega) (fun _ => ub_allowed hn hx (by omega) (fun ha => ?_) (fun ha => ?_))
    · refine br_f (by decide) (ub_form (by omega) (by omega) ?_)
      refine pk_eq (p.testBit j).toNat f (fun e => ub_total ok (by omega) ?_) (fun e => nm_r (nI_1 p) (ih (p + 1) r N (by omega) (ub_mn_skip h (fun z => e z.2)) (by omega)))
      refine br_c (fun hr => nm_r (nI_1 p) (ih (p + 1) _ N (by omega) (ub_mn_neg h (ub_T31 ok (-1)) hr ⟨ha, e⟩) (by omega))) (fun hr => ?_)
      exact br_c (fun hc => nm_r (nI_1 p) (ih (p + 1) _ N (by omega) (ub_mn_keep h (ub_T31 ok (-1)) ub_neg3 hr hc ⟨ha, e⟩) (by omega)))
        (fun hc => nm_r (nI_1 p) (ih (p + 1) _ N (by omega) (ub_mn_less h (ub_T31 ok (-1)) ub_neg3 hr hc ⟨ha, e⟩) (by omega)))
    · exact br_t rfl (nm_r (nI_1 p) (ih (p + 1) r N (by omega) (ub_mn_skip h (fun z => ha z.1)) (by omega)))
variable {sk : Int32} {w L : Nat → Nat} {pr qu : Nat → Int32}
theorem ub_xw45 {post : Int32 → SX → Prop} {j f : Nat} (ok : ub_ok n c F fr to bx ux) (hx : ∀ j, fx j ≤ 2) (hj : j < n) (hf : f ≤ 1) (h : fx j = 2 ∨ fx j = f)
    (K : ∀ t w L pr qu, ub_mn (fun p => ub_ag fx n p.testBit ∧ (p.testBit j).toNat = f) (fun p => ub_tot n c F fr to bx ux sk p.testBit) (2 ^ n) (-3) (nI t) →
      post (nI t) (nI n, nI c, sk, ub_l F, ub_l fr, ub_l to, ub_l bx, ub_l ux, ub_l fx, ub_l w, ub_l L, pr, qu)) :
    wX_bestWith_45 post (nI j) (nI f) (nI n) (nI c) sk (ub_l F) (ub_l fr) (ub_l to) (ub_l bx) (ub_l ux) (ub_l fx) (ub_l w) (ub_l L) pr qu := by
  have hn := ok.2.1
  unfold wX_bestWith_45
  refine ub_take hn (fun w hw => ?_)
  refine ⟨vp_in_nI (by omega) (by omega), nm_r (ub_wr w f (by omega)) ?_⟩
  have hw' : ∀ v, v < n → ub_u w j f v = ub_u fx j f v := by
    intro v hv
    by_cases e : v = j
    · rw [e, ub_us, ub_us]
    · rw [ub_un e, ub_un e, hw v hv]
  refine ub_solve ok (fun v hv => by rw [hw' v hv]; exact ub_u_le hx (by omega) v) (fun t L pr qu hm => K t _ L pr qu ?_)
  exact ub_mn_congr (fun p _ => ub_ag_u (hx j) hj hf h) (ub_mf_mn ok (ub_mf_w hw' hm) (-3))
end
section
variable {n c : Nat} {F fr to bx ux fx w L : Nat → Nat} {pr qu : Nat → Int32}
theorem ub_with {k j f : Nat} (ok : ub_ok n c F fr to bx ux) (hx : ∀ j, fx j ≤ 2) (hj : j < n) (hf : f ≤ 1)
    (Q : (Int32 → Prop) → Prop) (hQ : ∀ post : Int32 → Prop, (∃ N, wY_bestWith_28 post (nI j) (nI f) (nI n) (nI (2 ^ n)) (nI c) (ub_l F) (ub_l fx) (ub_l fr) (ub_l to) (ub_l bx) (ub_l ux) N (-3) 0) → Q post) :
    wX_bestWith_22 (fun r u' => Q (fun r' => r' = r ∧ i_Rel (k + 5) u' (nI n, nI (2 ^ n), nI c, ub_l F, ub_l fx, ub_l fr, ub_l to, ub_l bx, ub_l ux)))
      (nI j) (nI f) (nI n) (nI c) (-1) (ub_l F) (ub_l fr) (ub_l to) (ub_l bx) (ub_l ux) (ub_l fx) (ub_l w) (ub_l L) pr qu := by
  have hn := ok.2.1
  have h2 := ub_2n hn
  have hxj := hx j
  have i1 : vp_in (nI j) 10 := vp_in_nI (by omega) (by omega)
  have go : (fx j = 2 ∨ fx j = f) → wX_bestWith_45 (fun r u' => Q (fun r' => r' = r ∧ i_Rel (k + 5) u' (nI n, nI (2 ^ n), nI c, ub_l F, ub_l fx, ub_l fr, ub_l to, ub_l bx, ub_l ux)))
      (nI j) (nI f) (nI n) (nI c) (-1) (ub_l F) (ub_l fr) (ub_l to) (ub_l bx) (ub_l ux) (ub_l fx) (ub_l w) (ub_l L) pr qu := by
    intro h
    refine ub_xw45 ok hx hj hf h (fun t w L pr qu hm => hQ _ ⟨2 ^ n + 1, ?_⟩)
    exact ub_yw28 ok hx h2 hj hf (fun r hr => ⟨ub_mn_uq hr hm, ub_mk ok hx⟩) (2 ^ n) 0 (-3) (2 ^ n + 1) (by omega) ub_mn_0 (by omega)
  unfold wX_bestWith_22
  rw [ub_rd fx (show j < 2 ^ 31 by omega)]
  refine ⟨i1, pk_eq (fx j) 2 (fun e => go (Or.inl e)) (fun e => ⟨i1, pk_eq (fx j) f (fun e' => go (Or.inr e')) (fun e' => hQ _ ⟨2 ^ n + 1, ?_⟩)⟩)⟩
  refine ub_yw28 ok hx h2 hj hf (fun r hr => ?_) (2 ^ n) 0 (-3) (2 ^ n + 1) (by omega) ub_mn_0 (by omega)
  rcases hr with ⟨rfl, _⟩ | ⟨p, hp, ⟨ha, hb⟩, _⟩
  · exact ⟨rfl, ub_mk ok hx⟩
  · rcases (ub_ag1 hxj).mp (ha j hj) with z | z
    · exact absurd z e
    · exact absurd (z.trans hb) e'
end
theorem i_vc_bestWith {k : Nat} {u : SX} {v : SY} (I : i_Rel k u v) (hk : k + 5 ≤ 2561) (v1 : Int32) (v2 : Int32) : wpX_bestWith (fun r u' => wpY_bestWith (fun r' => r' = r ∧ i_Rel (k + 5) u' v) v v1 v2) u v1 v2 := by
  obtain ⟨n, c, F, fr, to, bx, ux, fx, w, L, pr, qu, rfl, rfl, ok, hx⟩ := I
  have hn := ok.2.1
  unfold wpX_bestWith
  dsimp only
  rcases ub_iv n (by omega) v1 with hb | ⟨j, hj, rfl⟩
  · refine ub_vXb hb (br_t rfl ?_)
    unfold wpY_bestWith
    dsimp only
    exact ub_vYb hb (br_f ub_nm ⟨rfl, ub_mk ok hx⟩)
  · refine ub_vXg hn hj (br_f ub_nm ?_)
    by_cases h0 : v2 = 0
    · subst h0
      refine br_t rfl (ub_with (f := 0) ok hx hj (by omega) (fun post => wpY_bestWith post (nI n, nI (2 ^ n), nI c, ub_l F, ub_l fx, ub_l fr, ub_l to, ub_l bx, ub_l ux) (nI j) 0) (fun post h => ?_))
      unfold wpY_bestWith
      dsimp only
      exact ub_vYg hn hj (br_t rfl (br_t rfl h))
    · by_cases h1 : v2 = 1
      · subst h1
        refine br_f h0 (br_t rfl (ub_with (f := 1) ok hx hj (by omega) (fun post => wpY_bestWith post (nI n, nI (2 ^ n), nI c, ub_l F, ub_l fx, ub_l fr, ub_l to, ub_l bx, ub_l ux) (nI j) 1) (fun post h => ?_)))
        unfold wpY_bestWith
        dsimp only
        exact ub_vYg hn hj (br_t rfl (br_f h0 (br_t rfl h)))
      · refine br_f h0 (br_f h1 ?_)
        unfold wpY_bestWith
        dsimp only
        exact ub_vYg hn hj (br_t rfl (br_f h0 (br_f h1 ⟨rfl, ub_mk ok hx⟩)))
end
section
/-! bestTied -/
/-- two least values joined -/
theorem ub_mn_none {A B C : Nat → Prop} {T : Nat → Nat} {N : Nat} {r0 r : Int32} (h : ub_mn A T N r0 r) (hB : ∀ p, p < N → ¬ B p) (hC : ∀ p, p < N → (C p ↔ A p ∨ B p)) : ub_mn C T N r0 r :=
  ub_mn_congr (fun p hp => ⟨fun a => (hC p hp).mpr (Or.inl a), fun z => ((hC p hp).mp z).resolve_right (hB p hp)⟩) h
theorem ub_mn_b0 {A B C : Nat → Prop} {T : Nat → Nat} {N : Nat} {r0 r r1 : Int32} {t : Nat} (h : ub_mn A T N r0 r) (hT : ∀ p, T p < 2 ^ 31) (h1 : r1 < 0) (ht : t < 2 ^ 31) (g : ub_mn B T N r1 (nI t))
    (hC : ∀ p, p < N → (C p ↔ A p ∨ B p)) (hr : r < 0) : ub_mn C T N r0 (nI t) := by
  rcases g with ⟨e, _⟩ | ⟨q, hq, hBq, e, hl⟩
  · exact absurd (by rw [e]; exact h1) (nI_pos ht)
  · rcases h with ⟨rfl, h⟩ | ⟨p, hp, hA, rfl, _⟩
    · refine Or.inr ⟨q, hq, (hC q hq).mpr (Or.inr hBq), e, fun x hx z => ?_⟩
      rcases (hC x hx).mp z with z | z
      · exact absurd z (h x hx)
      · exact hl x hx z
    · exact absurd hr (nI_pos (hT p))
theorem ub_mn_b1 {A B C : Nat → Prop} {T : Nat → Nat} {N : Nat} {r0 r r1 : Int32} {t : Nat} (h : ub_mn A T N r0 r) (hT : ∀ p, T p < 2 ^ 31) (h0 : r0 < 0) (h1 : r1 < 0) (ht : t < 2 ^ 31) (g : ub_mn B T N r1 (nI t))
    (hC : ∀ p, p < N → (C p ↔ A p ∨ B p)) (hr : ¬ r < 0) (hc : r ≤ nI t) : ub_mn C T N r0 r := by
  rcases g with ⟨e, _⟩ | ⟨q, hq, hBq, e, hl⟩
  · exact absurd (by rw [e]; exact h1) (nI_pos ht)
  · rcases h with ⟨rfl, h⟩ | ⟨p, hp, hA, rfl, hl2⟩
    · exact absurd h0 hr
    · rw [e, nI_leI (hT p) (hT q)] at hc
      refine Or.inr ⟨p, hp, (hC p hp).mpr (Or.inl hA), rfl, fun x hx z => ?_⟩
      rcases (hC x hx).mp z with z | z
      · exact hl2 x hx z
      · exact Nat.le_trans hc (hl x hx z)
theorem ub_mn_b2 {A B C : Nat → Prop} {T : Nat → Nat} {N : Nat} {r0 r r1 : Int32} {t : Nat} (h : ub_mn A T N r0 r) (hT : ∀ p, T p < 2 ^ 31) (h0 : r0 < 0) (h1 : r1 < 0) (ht : t < 2 ^ 31) (g : ub_mn B T N r1 (nI t))
    (hC : ∀ p, p < N → (C p ↔ A p ∨ B p)) (hr : ¬ r < 0) (hc : ¬ r ≤ nI t) : ub_mn C T N r0 (nI t) := by
  rcases g with ⟨e, _⟩ | ⟨q, hq, hBq, e, hl⟩
  · exact absurd (by rw [e]; exact h1) (nI_pos ht)
  · rcases h with ⟨rfl, h⟩ | ⟨p, hp, hA, rfl, hl2⟩
    · exact absurd h0 hr
    · rw [e, nI_leI (hT p) (hT q)] at hc
      refine Or.inr ⟨q, hq, (hC q hq).mpr (Or.inr hBq), e, fun x hx z => ?_⟩
      rcases (hC x hx).mp z with z | z
      · have := hl2 x hx z; omega
      · exact hl x hx z
/-- the other form -/
def ub_ot (sm : Int32) (f : Nat) : Nat := if sm = 0 then 1 - f else f
/-- plans with form f at u and its other at v -/
def ub_B (fx : Nat → Nat) (n u v : Nat) (sm : Int32) (f : Nat) (b : Nat → Bool) : Prop := ub_ag fx n b ∧ (b u).toNat = f ∧ (b v).toNat = ub_ot sm f
/-- plans as tied -/
def ub_A (fx : Nat → Nat) (n u v : Nat) (sm : Int32) (b : Nat → Bool) : Prop := ub_ag fx n b ∧ (b u = b v ↔ ¬ sm = 0)
theorem ub_A_B {fx : Nat → Nat} {n u v : Nat} {sm : Int32} {b : Nat → Bool} : (∃ g, g < 2 ∧ ub_B fx n u v sm g b) ↔ ub_A fx n u v sm b := by
  have d1 : ∀ x y : Bool, y.toNat = 1 - x.toNat → ¬ x = y := by decide
  have d2 : ∀ x y : Bool, y.toNat = x.toNat → x = y := by decide
  have d3 : ∀ x y : Bool, ¬ x = y → y.toNat = 1 - x.toNat := by decide
  constructor
  · rintro ⟨g, hg, ha, h1, h2⟩
    refine ⟨ha, ?_⟩
    rw [← h1] at h2
    unfold ub_ot at h2
    by_cases h : sm = 0
    · rw [if_pos h] at h2
      exact ⟨fun z => absurd z (d1 _ _ h2), fun z => absurd h z⟩
    · rw [if_neg h] at h2
      exact ⟨fun _ => h, fun _ => d2 _ _ h2⟩
  · rintro ⟨ha, he⟩
    refine ⟨(b u).toNat, ub_bl _, ha, rfl, ?_⟩
    unfold ub_ot
    by_cases h : sm = 0
    · rw [if_pos h]
      exact d3 _ _ (fun z => he.mp z h)
    · rw [if_neg h, he.mpr h]
section
variable {n c : Nat} {F fr to bx ux fx : Nat → Nat} {post : Int32 → SX → Prop} {u v : Nat} {sm : Int32}
variable {J : Int32 → Int32 → Int32 → Int32 → Int32 → (Nat → Int32) → (Nat → Int32) → (Nat → Int32) → (Nat → Int32) → (Nat → Int32) → (Nat → Int32) → (Nat → Int32) → (Nat → Int32) → (Nat → Int32) → (Nat → Int32) → Prop}
theorem ub_x112 {r : Int32} {f o : Nat} {w L : Nat → Nat} {pr qu : Nat → Int32} (ok : ub_ok n c F fr to bx ux) (hx : ∀ j, fx j ≤ 2) (hu : u < n) (hv : v < n) (hf : f ≤ 1) (ho : o ≤ 1)
    (h1 : fx u = 2 ∨ fx u = f) (h2 : fx v = 2 ∨ fx v = o) (huv : ¬ u = v ∨ f = o)
    (K : ∀ t w L pr qu, t < 2 ^ 31 → ub_mn (fun p => ub_ag fx n p.testBit ∧ (p.testBit u).toNat = f ∧ (p.testBit v).toNat = o) (fun p => ub_tot n c F fr to bx ux (-1) p.testBit) (2 ^ n) (-2) (nI t) → ∀ r',
      ((r < 0 ∧ r' = nI t) ∨ (¬ r < 0 ∧ r ≤ nI t ∧ r' = r) ∨ (¬ r < 0 ∧ ¬ r ≤ nI t ∧ r' = nI t)) →
      J r' (nI (f + 1)) (nI n) (nI c) (-1) (ub_l F) (ub_l fr) (ub_l to) (ub_l bx) (ub_l ux) (ub_l fx) (ub_l w) (ub_l L) pr qu) :
    wX_bestTied_112 post J (nI u) (nI v) sm r (nI f) (nI o) (nI n) (nI c) (-1) (ub_l F) (ub_l fr) (ub_l to) (ub_l bx) (ub_l ux) (ub_l fx) (ub_l w) (ub_l L) pr qu := by
  have hn := ok.2.1
  unfold wX_bestTied_112
  refine ub_take hn (fun w hw => ?_)
  refine ⟨vp_in_nI (by omega) (by omega), nm_r (ub_wr w f (by omega)) ⟨vp_in_nI (by omega) (by omega), nm_r (ub_wr _ o (by omega)) ?_⟩⟩
  have hw' : ∀ j, j < n → ub_u (ub_u w u f) v o j = ub_u (ub_u fx u f) v o j := by
    intro j hj
    by_cases e : j = v
    · rw [e, ub_us, ub_us]
    · rw [ub_un e, ub_un e]
      by_cases e' : j = u
      · rw [e', ub_us, ub_us]
      · rw [ub_un e', ub_un e', hw j hj]
  have hx1 : ∀ j, ub_u fx u f j ≤ 2 := ub_u_le hx (by omega)
  refine ub_solve ok (fun j hj => by rw [hw' j hj]; exact ub_u_le hx1 (by omega) j) (fun t L pr qu hm => ?_)
  have hm' := ub_mf_w hw' hm
  have ht := ub_mf_t ok hm'
  have ht' : t < 2 ^ 31 := by omega
  have h2' : ub_u fx u f v = 2 ∨ ub_u fx u f v = o := by
    by_cases e : v = u
    · rw [e, ub_us]
      rcases huv with z | z
      · exact absurd e.symm z
      · exact Or.inr z
    · rw [ub_un e]; exact h2
  have mn : ub_mn (fun p => ub_ag fx n p.testBit ∧ (p.testBit u).toNat = f ∧ (p.testBit v).toNat = o) (fun p => ub_tot n c F fr to bx ux (-1) p.testBit) (2 ^ n) (-2) (nI t) := by
    refine ub_mn_congr (fun p _ => ?_) (ub_mf_mn ok hm' (-2))
    rw [ub_ag_u (hx1 v) hv ho h2', ub_ag_u (hx u) hu hf h1, and_assoc]
  refine br_c (fun hr => nm_r (nI_1 f) (K t _ L pr qu ht' mn _ (Or.inl ⟨hr, rfl⟩))) (fun hr => ?_)
  exact br_c (fun hc => nm_r (nI_1 f) (K t _ L pr qu ht' mn _ (Or.inr (Or.inl ⟨hr, hc, rfl⟩)))) (fun hc => nm_r (nI_1 f) (K t _ L pr qu ht' mn _ (Or.inr (Or.inr ⟨hr, hc, rfl⟩))))
theorem ub_ot_le (f : Nat) (hf : f < 2) : ub_ot sm f ≤ 1 := by
  unfold ub_ot
  split <;> omega
theorem ub_x44 {r : Int32} {f : Nat} {w L : Nat → Nat} {pr qu : Nat → Int32} (ok : ub_ok n c F fr to bx ux) (hx : ∀ j, fx j ≤ 2) (hu : u < n) (hv : v < n) (hf : f < 2)
    (hr : ub_mn (fun p => ∃ g, g < f ∧ ub_B fx n u v sm g p.testBit) (fun p => ub_tot n c F fr to bx ux (-1) p.testBit) (2 ^ n) (-2) r)
    (K : ∀ r w L pr qu, ub_mn (fun p => ∃ g, g < f + 1 ∧ ub_B fx n u v sm g p.testBit) (fun p => ub_tot n c F fr to bx ux (-1) p.testBit) (2 ^ n) (-2) r →
      J r (nI (f + 1)) (nI n) (nI c) (-1) (ub_l F) (ub_l fr) (ub_l to) (ub_l bx) (ub_l ux) (ub_l fx) (ub_l w) (ub_l L) pr qu) :
    wX_bestTied_44 post J (nI u) (nI v) sm r (nI f) (nI (ub_ot sm f)) (nI n) (nI c) (-1) (ub_l F) (ub_l fr) (ub_l to) (ub_l bx) (ub_l ux) (ub_l fx) (ub_l w) (ub_l L) pr qu := by
  have hn := ok.2.1
  have ho := ub_ot_le (sm := sm) f hf
  have hxu := hx u
  have hxv := hx v
  have iu : vp_in (nI u) 10 := vp_in_nI (by omega) (by omega)
  have iv : vp_in (nI v) 10 := vp_in_nI (by omega) (by omega)
  have hC : ∀ p, p < 2 ^ n → ((∃ g, g < f + 1 ∧ ub_B fx n u v sm g p.testBit) ↔ (∃ g, g < f ∧ ub_B fx n u v sm g p.testBit) ∨ ub_B fx n u v sm f p.testBit) := by
    intro p _
    constructor
    · rintro ⟨g, hg, hb⟩
      by_cases e : g = f
      · subst e; exact Or.inr hb
      · exact Or.inl ⟨g, by omega, hb⟩
    · rintro (⟨g, hg, hb⟩ | hb)
      · exact ⟨g, by omega, hb⟩
      · exact ⟨f, by omega, hb⟩
  have skip : (∀ p, p < 2 ^ n → ¬ ub_B fx n u v sm f p.testBit) →
      J r (nI (f + 1)) (nI n) (nI c) (-1) (ub_l F) (ub_l fr) (ub_l to) (ub_l bx) (ub_l ux) (ub_l fx) (ub_l w) (ub_l L) pr qu :=
    fun no => K r w L pr qu (ub_mn_none (B := fun p => ub_B fx n u v sm f p.testBit) hr no hC)
  have b92 : (∀ p, p < 2 ^ n → ¬ ub_B fx n u v sm f p.testBit) →
      wX_bestTied_92 post J (nI u) (nI v) sm r (nI f) (nI (ub_ot sm f)) (nI n) (nI c) (-1) (ub_l F) (ub_l fr) (ub_l to) (ub_l bx) (ub_l ux) (ub_l fx) (ub_l w) (ub_l L) pr qu := by
    intro no
    unfold wX_bestTied_92 wX_bestTied_93
    exact br_t rfl (nm_r (nI_1 f) (skip no))
  have go : (fx u = 2 ∨ fx u = f) → (fx v = 2 ∨ fx v = ub_ot sm f) → (¬ u = v ∨ f = ub_ot sm f) →
      wX_bestTied_112 post J (nI u) (nI v) sm r (nI f) (nI (ub_ot sm f)) (nI n) (nI c) (-1) (ub_l F) (ub_l fr) (ub_l to) (ub_l bx) (ub_l ux) (ub_l fx) (ub_l w) (ub_l L) pr qu := by
    intro h1 h2 huv
    refine ub_x112 ok hx hu hv (by omega) ho h1 h2 huv (fun t w L pr qu ht mn r' hr' => K r' w L pr qu ?_)
    have mn' : ub_mn (fun p => ub_B fx n u v sm f p.testBit) (fun p => ub_tot n c F fr to bx ux (-1) p.testBit) (2 ^ n) (-2) (nI t) := mn
    rcases hr' with ⟨a, rfl⟩ | ⟨a, b, rfl⟩ | ⟨a, b, rfl⟩
    · exact ub_mn_b0 hr (ub_T31 ok (-1)) ub_neg2 ht mn' hC a
    · exact ub_mn_b1 hr (ub_T31 ok (-1)) ub_neg2 ub_neg2 ht mn' hC a b
    · exact ub_mn_b2 hr (ub_T31 ok (-1)) ub_neg2 ub_neg2 ht mn' hC a b
  have b88 : (fx u = 2 ∨ fx u = f) → (fx v = 2 ∨ fx v = ub_ot sm f) →
      wX_bestTied_88 post J (nI u) (nI v) sm r (nI f) (nI (ub_ot sm f)) (nI n) (nI c) (-1) (ub_l F) (ub_l fr) (ub_l to) (ub_l bx) (ub_l ux) (ub_l fx) (ub_l w) (ub_l L) pr qu := by
    intro h1 h2
    unfold wX_bestTied_88 wX_bestTied_93
    refine br_f ub_nm (pk_eq u v (fun e => pk_eq f (ub_ot sm f) (fun e' => go h1 h2 (Or.inr e')) (fun e' => nm_r (nI_1 f) (skip (fun p _ hb => ?_)))) (fun e => go h1 h2 (Or.inl e)))
    obtain ⟨_, q1, q2⟩ := hb
    rw [← e] at q2
    exact e' (q1.symm.trans q2)
  have b67 : (fx u = 2 ∨ fx u = f) →
      wX_bestTied_67 post J (nI u) (nI v) sm r (nI f) (nI (ub_ot sm f)) (nI n) (nI c) (-1) (ub_l F) (ub_l fr) (ub_l to) (ub_l bx) (ub_l ux) (ub_l fx) (ub_l w) (ub_l L) pr qu := by
    intro h1
    unfold wX_bestTied_67
    rw [ub_rd fx (show v < 2 ^ 31 by omega)]
    refine ⟨iv, pk_eq (fx v) 2 (fun e => b88 h1 (Or.inl e)) (fun e => ⟨iv, pk_eq (fx v) (ub_ot sm f) (fun e' => b88 h1 (Or.inr e')) (fun e' => b92 (fun p _ hb => ?_))⟩)⟩
    obtain ⟨q0, _, q2⟩ := hb
    rcases (ub_ag1 hxv).mp (q0 v hv) with z | z
    · exact e z
    · exact e' (z.trans q2)
  unfold wX_bestTied_44
  rw [ub_rd fx (show u < 2 ^ 31 by omega)]
  refine ⟨iu, pk_eq (fx u) 2 (fun e => b67 (Or.inl e)) (fun e => ⟨iu, pk_eq (fx u) f (fun e' => b67 (Or.inr e')) (fun e' => b92 (fun p _ hb => ?_))⟩)⟩
  obtain ⟨q0, q1, _⟩ := hb
  rcases (ub_ag1 hxu).mp (q0 u hu) with z | z
  · exact e z
  · exact e' (z.trans q1)
theorem ub_x25 (ok : ub_ok n c F fr to bx ux) (hx : ∀ j, fx j ≤ 2) (hu : u < n) (hv : v < n)
    (K : ∀ r w L pr qu, ub_mn (fun p => ∃ g, g < 2 ∧ ub_B fx n u v sm g p.testBit) (fun p => ub_tot n c F fr to bx ux (-1) p.testBit) (2 ^ n) (-2) r →
      post r (nI n, nI c, -1, ub_l F, ub_l fr, ub_l to, ub_l bx, ub_l ux, ub_l fx, ub_l w, ub_l L, pr, qu)) :
    ∀ d f r w L pr qu N, f + d = 2 → ub_mn (fun p => ∃ g, g < f ∧ ub_B fx n u v sm g p.testBit) (fun p => ub_tot n c F fr to bx ux (-1) p.testBit) (2 ^ n) (-2) r → d < N →
      wX_bestTied_25 post (nI u) (nI v) sm N r (nI f) (nI n) (nI c) (-1) (ub_l F) (ub_l fr) (ub_l to) (ub_l bx) (ub_l ux) (ub_l fx) (ub_l w) (ub_l L) pr qu := by
  intro d
  induction d with
  | zero =>
    intro f r w L pr qu N hf h hN
    obtain ⟨N, rfl⟩ : ∃ M, N = M + 1 := ⟨N - 1, by omega⟩
    refine pk_lt 1 f (fun _ => K r w L pr qu ?_) (fun h => by omega)
    rw [show f = 2 by omega] at h
    exact h
  | succ d ih =>
    intro f r w L pr qu N hf h hN
    obtain ⟨N, rfl⟩ : ∃ M, N = M + 1 := ⟨N - 1, by omega⟩
    refine pk_lt 1 f (fun h => by omega) (fun _ => ?_)
    have go : wX_bestTied_44 post (wX_bestTied_25 post (nI u) (nI v) sm N) (nI u) (nI v) sm r (nI f) (nI (ub_ot sm f)) (nI n) (nI c) (-1) (ub_l F) (ub_l fr) (ub_l to) (ub_l bx) (ub_l ux) (ub_l fx) (ub_l w) (ub_l L) pr qu :=
      ub_x44 ok hx hu hv (by omega) h (fun r w L pr qu h' => ih (f + 1) r w L pr qu N (by omega) h' (by omega))
    by_cases e : sm = 0
    · have eo : (1 : Int32) - nI f = nI (ub_ot sm f) := by
        unfold ub_ot
        rw [if_pos e]
        exact pk_sub (a := 1) (by omega)
      rw [eo]
      exact br_t e go
    · have eo : ub_ot sm f = f := if_neg e
      rw [eo] at go
      exact br_f e go
end
section
variable {n P c : Nat} {F fr to bx ux fx : Nat → Nat} {post : Int32 → Prop} {u v : Nat} {sm : Int32}
theorem ub_y56 {J : Int32 → Int32 → Prop} {p z : Nat} {r : Int32} (ok : ub_ok n c F fr to bx ux) (hx : ∀ j, fx j ≤ 2) (hp : p < 1024) (hz1 : z ≤ 1) (hz : z = 1 ↔ p.testBit u = p.testBit v)
    (h : ub_mn (fun p => ub_A fx n u v sm p.testBit) (fun p => ub_tot n c F fr to bx ux (-1) p.testBit) p (-2) r)
    (K : ∀ r, ub_mn (fun p => ub_A fx n u v sm p.testBit) (fun p => ub_tot n c F fr to bx ux (-1) p.testBit) (p + 1) (-2) r → J r (nI (p + 1))) :
    wY_bestTied_56 post J (nI u) (nI v) sm r (nI p) (nI z) (nI n) (nI P) (nI c) (ub_l F) (ub_l fx) (ub_l fr) (ub_l to) (ub_l bx) (ub_l ux) := by
  have hn := ok.2.1
  have tot : ub_A fx n u v sm p.testBit → ∀ x : Int32, x = x ∧ wpY_total (fun r_60 => (((r < 0 → (∀ x5_71 : Int32, x5_71 = nI p + 1 → (J r_60 x5_71))) ∧ (¬ r < 0 → (((r ≤ r_60 → (∀ x5_73 : Int32, x5_73 = nI p + 1 → (J r x5_73))) ∧ (¬ r ≤ r_60 → (∀ x5_74 : Int32, x5_74 = nI p + 1 → (J r_60 x5_74))))))))) (nI n, nI P, nI c, ub_l F, ub_l fx, ub_l fr, ub_l to, ub_l bx, ub_l ux) (nI p) (-1) := by
    intro ha x
    refine ⟨rfl, ub_total ok (by omega) ?_⟩
    refine br_c (fun hr => nm_r (nI_1 p) (K _ (ub_mn_neg h (ub_T31 ok (-1)) hr ha))) (fun hr => ?_)
    exact br_c (fun hc => nm_r (nI_1 p) (K _ (ub_mn_keep h (ub_T31 ok (-1)) ub_neg2 hr hc ha))) (fun hc => nm_r (nI_1 p) (K _ (ub_mn_less h (ub_T31 ok (-1)) ub_neg2 hr hc ha)))
  unfold wY_bestTied_56
  refine ub_allowed hn hx (by omega) (fun ha => br_f ub_nm ?_) (fun ha => br_t rfl (nm_r (nI_1 p) (K r (ub_mn_skip h (fun q => ha q.1)))))
  refine br_c (fun e => ?_) (fun e => ?_)
  · unfold wY_bestTied_78
    refine pk_eq z 0 (fun e0 => (tot ⟨ha, fun q => absurd (hz.mpr q) (by omega), fun q => absurd e q⟩ 0).2) (fun e0 => nm_r (nI_1 p) (K r (ub_mn_skip h (fun q => ?_))))
    exact q.2.mp (hz.mp (by omega)) e
  · unfold wY_bestTied_78
    refine pk_eq z 1 (fun e0 => (tot ⟨ha, fun _ => e, fun _ => hz.mp e0⟩ 0).2) (fun e0 => nm_r (nI_1 p) (K r (ub_mn_skip h (fun q => ?_))))
    exact e0 (hz.mpr (q.2.mpr e))
theorem ub_y25 (ok : ub_ok n c F fr to bx ux) (hx : ∀ j, fx j ≤ 2) (hP : P ≤ 1024) (hu : u < n) (hv : v < n)
    (K : ∀ r, ub_mn (fun p => ub_A fx n u v sm p.testBit) (fun p => ub_tot n c F fr to bx ux (-1) p.testBit) P (-2) r → post r) :
    ∀ d p r N, p + d = P → ub_mn (fun p => ub_A fx n u v sm p.testBit) (fun p => ub_tot n c F fr to bx ux (-1) p.testBit) p (-2) r → d < N →
      wY_bestTied_25 post (nI u) (nI v) sm (nI n) (nI P) (nI c) (ub_l F) (ub_l fx) (ub_l fr) (ub_l to) (ub_l bx) (ub_l ux) N r (nI p) := by
  have hn := ok.2.1
  intro d
  induction d with
  | zero =>
    intro p r N hp h hN
    obtain ⟨N, rfl⟩ : ∃ M, N = M + 1 := ⟨N - 1, by omega⟩
    refine pk_le P p (fun _ => K r ?_) (fun h => by omega)
    rw [show P = p by omega]
    exact h
  | succ d ih =>
    intro p r N hp h hN
    obtain ⟨N, rfl⟩ : ∃ M, N = M + 1 := ⟨N - 1, by omega⟩
    have b1 := ub_bl (p.testBit u)
    have b2 := ub_bl (p.testBit v)
    have d2 : ∀ x y : Bool, x.toNat = y.toNat → x = y := by decide
    refine pk_le P p (fun h => by omega) (fun _ => ub_form (by omega) (by omega) (ub_form (by omega) (by omega) ?_))
    refine pk_eq (p.testBit u).toNat (p.testBit v).toNat (fun e => ?_) (fun e => ?_)
    · exact ub_y56 (z := 1) ok hx (by omega) (by omega) ⟨fun _ => d2 _ _ e, fun _ => rfl⟩ h (fun r h' => ih (p + 1) r N (by omega) h' (by omega))
    · exact ub_y56 (z := 0) ok hx (by omega) (by omega) ⟨fun q => absurd q (by omega), fun q => absurd (by rw [q]) e⟩ h (fun r h' => ih (p + 1) r N (by omega) h' (by omega))
end
theorem i_vc_bestTied {k : Nat} {u : SX} {v : SY} (I : i_Rel k u v) (hk : k + 5 ≤ 2561) (v1 : Int32) (v2 : Int32) (v3 : Int32) : wpX_bestTied (fun r u' => wpY_bestTied (fun r' => r' = r ∧ i_Rel (k + 5) u' v) v v1 v2 v3) u v1 v2 v3 := by
  obtain ⟨n, c, F, fr, to, bx, ux, fx, w, L, pr, qu, rfl, rfl, ok, hx⟩ := I
  have hn := ok.2.1
  have h2 := ub_2n hn
  unfold wpX_bestTied wpY_bestTied
  dsimp only
  rcases ub_iv n (by omega) v1 with hb | ⟨j, hj, rfl⟩
  · exact ub_vXb hb (br_t rfl (ub_vYb hb (br_f ub_nm ⟨rfl, ub_mk ok hx⟩)))
  rcases ub_iv n (by omega) v2 with hb | ⟨i, hi, rfl⟩
  · exact ub_vXg hn hj (br_f ub_nm (ub_vXb hb (br_t rfl (ub_vYg hn hj (br_t rfl (ub_vYb hb (br_f ub_nm ⟨rfl, ub_mk ok hx⟩)))))))
  refine ub_vXg hn hj (br_f ub_nm (ub_vXg hn hi (br_f ub_nm ⟨3, ?_⟩)))
  refine ub_x25 (u := j) (v := i) ok hx hj hi (fun r w L pr qu hr => ?_) 2 0 (-2) w L pr qu 3 rfl (Or.inl ⟨rfl, fun p _ z => ?_⟩) (by omega)
  · refine ub_vYg hn hj (br_t rfl (ub_vYg hn hi (br_t rfl ⟨2 ^ n + 1, ?_⟩)))
    refine ub_y25 ok hx h2 hj hi (fun r' hr' => ⟨?_, ub_mk ok hx⟩) (2 ^ n) 0 (-2) (2 ^ n + 1) (by omega) ub_mn_0 (by omega)
    exact ub_mn_uq hr' (ub_mn_congr (fun p _ => ub_A_B) hr)
  · obtain ⟨g, hg, _⟩ := z
    omega
end
