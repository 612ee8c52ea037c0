section
theorem pk_us {f : Nat → Int32} {k : Nat} {x : Int32} : upd f k x k = x := if_pos rfl
theorem pk_un {f : Nat → Int32} {k j : Nat} {x : Int32} (h : j ≠ k) : upd f k x j = f j := if_neg h
theorem pk_sub {a b : Nat} (h : b ≤ a) : nI a - nI b = nI (a - b) := by
  obtain ⟨c, rfl⟩ : ∃ c, a = c + b := ⟨a - b, by omega⟩
  rw [← nI_add, Int32.add_sub_cancel, Nat.add_sub_cancel]
theorem pk_m1 (n : Nat) : nI (n + 1) + (-1) = nI n := by
  rw [← nI_1, Int32.add_assoc, show (1 : Int32) + (-1) = 0 from rfl, Int32.add_zero]
theorem pk_mul (a b : Nat) : nI a * nI b = nI (a * b) := (Int32.ofNat_mul a b).symm
theorem pk_div {a d : Nat} (ha : a < 2 ^ 31) (h0 : 0 < d) (hd : d < 2 ^ 31) : nI a / nI d = nI (a / d) := by
  apply Int32.toInt_inj.mp
  rw [lg_idiv_nonneg (by rw [nI_toInt ha]; omega) (by rw [nI_toInt hd]; omega), nI_toInt ha, nI_toInt hd, nI_toInt (Nat.lt_of_le_of_lt (Nat.div_le_self a d) ha)]
  first | rfl | exact (Int.natCast_ediv _ _).symm
theorem pk_rem {a d : Nat} (ha : a < 2 ^ 31) (h0 : 0 < d) (hd : d < 2 ^ 31) : nI a - nI a / nI d * nI d = nI (a % d) := by
  rw [pk_div ha h0 hd, pk_mul, pk_sub (Nat.div_mul_le_self a d)]
  exact congrArg nI (by have := Nat.div_add_mod' a d; omega)
theorem pk_ix (x : Int32) {n : Nat} (hn : n < 2 ^ 31) : x < 0 ∨ nI n ≤ x ∨ ∃ j : Nat, j < n ∧ x = nI j := by
  by_cases h : x < 0
  · exact Or.inl h
  · obtain ⟨j, hj, rfl⟩ := nI_of h
    by_cases h2 : j < n
    · exact Or.inr (Or.inr ⟨j, h2, rfl⟩)
    · exact Or.inr (Or.inl (nI_le (by omega) hj))
theorem pk_le {x y : Int32} {A B : Prop} (a b : Nat) (f : a ≤ b → A) (g : b < a → B) (hx : x = nI a := by rfl) (hy : y = nI b := by rfl) (ha : a < 2 ^ 31 := by omega) (hb : b < 2 ^ 31 := by omega) : (x ≤ y → A) ∧ (¬ x ≤ y → B) := by
  subst hx hy
  rw [nI_leI ha hb]
  exact ⟨f, fun z => g (by omega)⟩
theorem pk_lt {x y : Int32} {A B : Prop} (a b : Nat) (f : a < b → A) (g : b ≤ a → B) (hx : x = nI a := by rfl) (hy : y = nI b := by rfl) (ha : a < 2 ^ 31 := by omega) (hb : b < 2 ^ 31 := by omega) : (x < y → A) ∧ (¬ x < y → B) := by
  subst hx hy
  rw [nI_ltI ha hb]
  exact ⟨f, fun z => g (by omega)⟩
theorem pk_eq {x y : Int32} {A B : Prop} (a b : Nat) (f : a = b → A) (g : a ≠ b → B) (hx : x = nI a := by rfl) (hy : y = nI b := by rfl) (ha : a < 2 ^ 31 := by omega) (hb : b < 2 ^ 31 := by omega) : (x = y → A) ∧ (¬ x = y → B) := by
  subst hx hy
  rw [nI_eq ha hb]
  exact ⟨f, g⟩
theorem pk_in {x : Int32} (n N : Nat) (h : n < N) (hx : x = nI n := by rfl) (hN : N < 2 ^ 31 := by omega) : vp_in x N := by
  subst hx
  exact vp_in_nI h hN
theorem pk_cl {x : Int32} (n : Nat) (hx : x = nI n := by rfl) (h : n < 2 ^ 31 := by omega) : x.toNatClampNeg = n := by
  subst hx
  exact nI_clamp h
theorem pk_shr (a s : Int32) (k : Nat) (hs : (s.toBitVec.smod 32).toNat = k) : (a >>> s).toInt = a.toInt >>> k := by
  show (a.toBitVec.sshiftRight (s.toBitVec.smod 32).toNat).toInt = _
  rw [hs, BitVec.toInt_sshiftRight]
  rfl
theorem pk_least (P : Nat → Prop) (h : ∃ k, P k) : ∃ k, P k ∧ ∀ j, j < k → ¬ P j := by
  obtain ⟨k, hk⟩ := h
  induction k using Nat.strongRecOn with
  | ind k ih =>
    by_cases e : ∃ j, j < k ∧ P j
    · obtain ⟨j, hj, pj⟩ := e
      exact ih j hj pj
    · exact ⟨k, hk, fun j hj pj => e ⟨j, hj, pj⟩⟩
theorem pk_shrN {n : Nat} (h : n < 2 ^ 31) (s : Int32) (k : Nat) (hs : (s.toBitVec.smod 32).toNat = k) : nI n >>> s = nI (n / 2 ^ k) := by
  apply Int32.toInt_inj.mp
  have h2 : n / 2 ^ k ≤ n := Nat.div_le_self _ _
  rw [pk_shr _ _ k hs, nI_toInt h, nI_toInt (by omega), Int.shiftRight_eq_div_pow]
  rfl
end
section
/-! small arithmetic -/
theorem mz_10 : ¬ (1 : Int32) = 0 := by decide
theorem mz_d4 : ¬ (4 : Int32) = 0 := by decide
theorem mz_d8 : ¬ (8 : Int32) = 0 := by decide
theorem mz_d16 : ¬ (16 : Int32) = 0 := by decide
theorem mz_nm1 {n : Nat} (h : n < 2 ^ 31) : ¬ nI n = -1 := by
  intro e
  have h1 : (nI n).toInt = (-1 : Int32).toInt := by rw [e]
  rw [nI_toInt h, show (-1 : Int32).toInt = -1 from by decide] at h1
  omega
theorem mz_m1n {n : Nat} (h : n < 2 ^ 31) : ¬ -1 = nI n := fun e => mz_nm1 h e.symm
theorem mz_ne {a b : Nat} (ha : a < 2 ^ 31) (hb : b < 2 ^ 31) (h : a ≠ b) : ¬ nI a = nI b := fun e => h ((nI_eq ha hb).mp e)
theorem mz_inj {a b : Nat} (e : nI a = nI b) (ha : a < 2 ^ 31 := by omega) (hb : b < 2 ^ 31 := by omega) : a = b := (nI_eq ha hb).mp e
theorem mz_a8 (d e : Nat) : 8 * nI d + nI e = nI (8 * d + e) := by
  show nI 8 * nI d + nI e = _
  rw [pk_mul, nI_add]
theorem mz_a4 (d e : Nat) : 4 * nI d + nI e = nI (4 * d + e) := by
  show nI 4 * nI d + nI e = _
  rw [pk_mul, nI_add]
theorem mz_a16 (d e : Nat) : 16 * nI d + nI e = nI (16 * d + e) := by
  show nI 16 * nI d + nI e = _
  rw [pk_mul, nI_add]
theorem mz_b16 (d e : Nat) : nI d + 16 * nI e = nI (d + 16 * e) := by
  show nI d + nI 16 * nI e = _
  rw [pk_mul, nI_add]
theorem mz_t4 (d : Nat) : 4 * nI d = nI (4 * d) := pk_mul 4 d
theorem mz_p4 (d : Nat) : 4 + nI d = nI (4 + d) := nI_add 4 d
theorem mz_sub1 {a : Nat} (h : 1 ≤ a) : nI a - 1 = nI (a - 1) := pk_sub (b := 1) h
theorem mz_q4 {a t : Nat} (ha : a < 2 ^ 31) (h : a / 4 = t) : nI a / 4 = nI t := by
  show nI a / nI 4 = nI t
  rw [pk_div ha (by omega) (by omega), h]
theorem mz_r4 {a t : Nat} (ha : a < 2 ^ 31) (h : a % 4 = t) : nI a - nI a / 4 * 4 = nI t := by
  show nI a - nI a / nI 4 * nI 4 = nI t
  rw [pk_rem ha (by omega) (by omega), h]
theorem mz_q8 {a t : Nat} (ha : a < 2 ^ 31) (h : a / 8 = t) : nI a / 8 = nI t := by
  show nI a / nI 8 = nI t
  rw [pk_div ha (by omega) (by omega), h]
theorem mz_r8 {a t : Nat} (ha : a < 2 ^ 31) (h : a % 8 = t) : nI a - nI a / 8 * 8 = nI t := by
  show nI a - nI a / nI 8 * nI 8 = nI t
  rw [pk_rem ha (by omega) (by omega), h]
theorem mz_q16 {a t : Nat} (ha : a < 2 ^ 31) (h : a / 16 = t) : nI a / 16 = nI t := by
  show nI a / nI 16 = nI t
  rw [pk_div ha (by omega) (by omega), h]
theorem mz_r16 {a t : Nat} (ha : a < 2 ^ 31) (h : a % 16 = t) : nI a - nI a / 16 * 16 = nI t := by
  show nI a - nI a / nI 16 * nI 16 = nI t
  rw [pk_rem ha (by omega) (by omega), h]
theorem mz_nb0 : vp_nar .boolean 0 = 0 := by rfl
theorem mz_nb1 : vp_nar .boolean 1 = 1 := by rfl
/-! stores -/
theorem mz_up1 {Q : Int32 → Prop} {a : Nat → Int32} {i : Nat} {x : Int32} (h : ∀ k, Q (a k)) (hx : Q x) : ∀ k, Q (upd a i x k) := by
  intro k
  by_cases e : k = i
  · rw [e, pk_us]; exact hx
  · rw [pk_un e]; exact h k
theorem mz_up3 {Q : Int32 → Int32 → Int32 → Prop} {a b c : Nat → Int32} {i : Nat} {x y z : Int32} (h : ∀ k, Q (a k) (b k) (c k)) (hx : Q x y z) : ∀ k, Q (upd a i x k) (upd b i y k) (upd c i z k) := by
  intro k
  by_cases e : k = i
  · rw [e, pk_us, pk_us, pk_us]; exact hx
  · rw [pk_un e, pk_un e, pk_un e]; exact h k
theorem mz_up13 {Q : Int32 → Int32 → Int32 → Prop} {a b c : Nat → Int32} {i : Nat} {x z : Int32} (h : ∀ k, Q (a k) (b k) (c k)) (hx : Q x (b i) z) : ∀ k, Q (upd a i x k) (b k) (upd c i z k) := by
  intro k
  by_cases e : k = i
  · rw [e, pk_us, pk_us]; exact hx
  · rw [pk_un e, pk_un e]; exact h k
theorem mz_up12 {Q : Int32 → Int32 → Int32 → Prop} {a b c : Nat → Int32} {i : Nat} {x y : Int32} (h : ∀ k, Q (a k) (b k) (c k)) (hx : Q x y (c i)) : ∀ k, Q (upd a i x k) (upd b i y k) (c k) := by
  intro k
  by_cases e : k = i
  · rw [e, pk_us, pk_us]; exact hx
  · rw [pk_un e, pk_un e]; exact h k
/-! the relation, piece by piece -/
def mz_Siz (D E N R : Nat) : Prop := 1 ≤ D ∧ D ≤ 4 ∧ 1 ≤ E ∧ E ≤ 8 ∧ 8 ≤ N ∧ N ≤ 32 ∧ 2 ≤ R ∧ R ≤ 16
def mz_Opt (x : Int32) : Prop := x = -1 ∨ ∃ p : Nat, p < 4 ∧ x = nI p
def mz_Le8 (x : Int32) : Prop := ∃ m : Nat, m ≤ 8 ∧ x = nI m
def mz_EnR (N : Nat) (x i c : Int32) : Prop := ∃ q : Nat, q < 4 ∧ c = nI q ∧ ((x = -1 ∧ i = -1) ∨ ∃ t : Nat, t < N ∧ i = nI t ∧ x = nI (4 * t + q))
def mz_CfR (x p e : Int32) : Prop := ∃ q b : Nat, q < 16 ∧ b < 2 ∧ p = nI q ∧ e = nI b ∧ x = nI (q + 16 * b)
def mz_PlR (x y l : Int32) : Prop := (x = -1 ∧ y = -1) ∨ ∃ p : Nat, p < 4 ∧ y = nI p ∧ ((x = nI p ∧ l = 0) ∨ (x = nI (4 + p) ∧ l = 1))
def mz_cnt (P : Nat → Nat) (p : Nat) : Nat → Nat
  | 0 => 0
  | j + 1 => mz_cnt P p j + (if P j = p then 1 else 0)
def mz_Nes (N ns : Nat) (ac np nd sp si sv : Nat → Int32) (P I V : Nat → Nat) : Prop :=
  (∀ j, j < ns → P j < 4 ∧ I j < N ∧ V j < 16 ∧ sp j = nI (P j) ∧ si j = nI (I j) ∧ sv j = nI (V j) ∧ ac (I j) = nI (P j) ∧ np (16 * P j + mz_cnt P (P j) j) = nI (16 * I j + V j) ∧ V j + mz_cnt P (P j) j ≤ 15)
  ∧ (∀ p, p < 4 → nd p = nI (mz_cnt P p ns)) ∧ (∀ j j', j < j' → j' < ns → I j ≠ I j') ∧ ns ≤ 32
def mz_Nst (N ns : Nat) (ac np nd sp si sv : Nat → Int32) : Prop := ∃ P I V : Nat → Nat, mz_Nes N ns ac np nd sp si sv P I V
def mz_Rng (R hd wt : Nat) (xo xa xb xc yo ya yb yc : Nat → Int32) : Prop :=
  hd < 16 ∧ wt ≤ R ∧ ∀ k, k < wt → (∃ o : Nat, o < 10 ∧ yo k = nI o) ∧ xo ((hd + k) % 16) = yo k ∧ xa ((hd + k) % 16) = ya k ∧ xb ((hd + k) % 16) = yb k ∧ xc ((hd + k) % 16) = yc k
/-- what the commands may change -/
def mz_Tab (N : Nat) (lm tg en ef pl ei ec fp fe pe la : Nat → Int32) : Prop :=
  (∀ k, mz_Le8 (lm k)) ∧ (∀ k, mz_Opt (tg k)) ∧ (∀ k, mz_EnR N (en k) (ei k) (ec k)) ∧ (∀ k, mz_CfR (ef k) (fp k) (fe k)) ∧ (∀ k, mz_PlR (pl k) (pe k) (la k))
def mz_Fac (D E N R hd wt ns : Nat) (lm tg en wr ef pl ac np nd mk pt xo xa xb xc ei ec vq ve fp fe pe la sp si sv yo ya yb yc : Nat → Int32) : Prop :=
  mz_Siz D E N R ∧ mz_Tab N lm tg en ef pl ei ec fp fe pe la ∧ (∀ k, mz_CfR (wr k) (vq k) (ve k)) ∧ (∀ k, mz_Opt (ac k)) ∧ mz_Nst N ns ac np nd sp si sv ∧ mz_Rng R hd wt xo xa xb xc yo ya yb yc
/-- the relation -/
def i_Rel (_ : Nat) (u : SX) (v : SY) : Prop := ∃ (D E N R hd wt ns : Nat) (lm tg en wr ef pl ac np nd mk pt xo xa xb xc ei ec vq ve fp fe pe la sp si sv yo ya yb yc : Nat → Int32), u = (nI D, nI E, nI N, nI R, nI hd, nI wt, lm, tg, en, wr, ef, pl, ac, np, nd, mk, pt, xo, xa, xb, xc) ∧ v = (nI D, nI E, nI N, nI R, nI ns, nI wt, lm, tg, ei, ec, vq, ve, fp, fe, pe, la, ac, sp, si, sv, mk, pt, yo, ya, yb, yc) ∧ mz_Fac D E N R hd wt ns lm tg en wr ef pl ac np nd mk pt xo xa xb xc ei ec vq ve fp fe pe la sp si sv yo ya yb yc
theorem i_up {k : Nat} {u : SX} {v : SY} (h : i_Rel k u v) : i_Rel (k + 5) u v := h
theorem mz_el {k : Nat} {u : SX} {v : SY} {P : SX → SY → Prop} (h : ∀ (D E N R hd wt ns : Nat) (lm tg en wr ef pl ac np nd mk pt xo xa xb xc ei ec vq ve fp fe pe la sp si sv yo ya yb yc : Nat → Int32), mz_Fac D E N R hd wt ns lm tg en wr ef pl ac np nd mk pt xo xa xb xc ei ec vq ve fp fe pe la sp si sv yo ya yb yc → P (nI D, nI E, nI N, nI R, nI hd, nI wt, lm, tg, en, wr, ef, pl, ac, np, nd, mk, pt, xo, xa, xb, xc) (nI D, nI E, nI N, nI R, nI ns, nI wt, lm, tg, ei, ec, vq, ve, fp, fe, pe, la, ac, sp, si, sv, mk, pt, yo, ya, yb, yc)) (J : i_Rel k u v) : P u v :=
  Exists.elim J fun D J => Exists.elim J fun E J => Exists.elim J fun N J => Exists.elim J fun R J => Exists.elim J fun hd J => Exists.elim J fun wt J => Exists.elim J fun ns J => Exists.elim J fun lm J => Exists.elim J fun tg J => Exists.elim J fun en J => Exists.elim J fun wr J => Exists.elim J fun ef J => Exists.elim J fun pl J => Exists.elim J fun ac J => Exists.elim J fun np J => Exists.elim J fun nd J => Exists.elim J fun mk J => Exists.elim J fun pt J => Exists.elim J fun xo J => Exists.elim J fun xa J => Exists.elim J fun xb J => Exists.elim J fun xc J => Exists.elim J fun ei J => Exists.elim J fun ec J => Exists.elim J fun vq J => Exists.elim J fun ve J => Exists.elim J fun fp J => Exists.elim J fun fe J => Exists.elim J fun pe J => Exists.elim J fun la J => Exists.elim J fun sp J => Exists.elim J fun si J => Exists.elim J fun sv J => Exists.elim J fun yo J => Exists.elim J fun ya J => Exists.elim J fun yb J => Exists.elim J fun yc J => (by have z := h D E N R hd wt ns lm tg en wr ef pl ac np nd mk pt xo xa xb xc ei ec vq ve fp fe pe la sp si sv yo ya yb yc J.2.2; rw [J.1, J.2.1]; exact z)
section
variable {D E N R hd wt ns : Nat} {lm tg en wr ef pl ac np nd mk pt xo xa xb xc ei ec vq ve fp fe pe la sp si sv yo ya yb yc : Nat → Int32}
theorem mz_in {k : Nat} (h : mz_Fac D E N R hd wt ns lm tg en wr ef pl ac np nd mk pt xo xa xb xc ei ec vq ve fp fe pe la sp si sv yo ya yb yc) : i_Rel k (nI D, nI E, nI N, nI R, nI hd, nI wt, lm, tg, en, wr, ef, pl, ac, np, nd, mk, pt, xo, xa, xb, xc) (nI D, nI E, nI N, nI R, nI ns, nI wt, lm, tg, ei, ec, vq, ve, fp, fe, pe, la, ac, sp, si, sv, mk, pt, yo, ya, yb, yc) :=
  ⟨D, E, N, R, hd, wt, ns, lm, tg, en, wr, ef, pl, ac, np, nd, mk, pt, xo, xa, xb, xc, ei, ec, vq, ve, fp, fe, pe, la, sp, si, sv, yo, ya, yb, yc, rfl, rfl, h⟩
end
/-! within -/
theorem mz_w0 {post : Int32 → Prop} {u : SX} {a b : Int32} (h : a < 0 ∨ b ≤ a) (hp : post 0) : wpX_within post u a b := by
  obtain ⟨a0, a1, a2, a3, a4, a5, a6, a7, a8, a9, a10, a11, a12, a13, a14, a15, a16, a17, a18, a19, a20⟩ := u
  unfold wpX_within
  exact br_c (fun _ => hp) (fun n => br_t (h.resolve_left n) hp)
theorem mz_w1 {post : Int32 → Prop} {u : SX} {j : Nat} (n : Nat) (h : j < n) (hn : n < 2 ^ 31) (hp : post 1) : wpX_within post u (nI j) (nI n) := by
  obtain ⟨a0, a1, a2, a3, a4, a5, a6, a7, a8, a9, a10, a11, a12, a13, a14, a15, a16, a17, a18, a19, a20⟩ := u
  unfold wpX_within
  exact br_f (nI_pos (by omega)) (br_f (nI_ge h hn) hp)
theorem mz_ge0 {n : Nat} {x : Int32} (h : nI n ≤ x) (hn : n < 2 ^ 31) : ¬ x < 0 := by
  rw [Int32.lt_iff_toInt_lt, show (0 : Int32).toInt = 0 from by decide]
  rw [Int32.le_iff_toInt_le, nI_toInt hn] at h
  omega
theorem mz_gtl {x : Int32} (a b : Nat) (h : nI b ≤ x) (hab : a < b) (hb : b < 2 ^ 31) : ¬ x ≤ nI a := by
  rw [Int32.le_iff_toInt_le, nI_toInt (by omega)]
  rw [Int32.le_iff_toInt_le, nI_toInt hb] at h
  omega
theorem mz_gt {x : Int32} (a b : Nat) (h : nI b ≤ x) (hab : a < b) (hb : b < 2 ^ 31) : nI a < x := by
  rw [Int32.lt_iff_toInt_lt, nI_toInt (by omega)]
  rw [Int32.le_iff_toInt_le, nI_toInt hb] at h
  omega
theorem mz_nlt {x : Int32} (b : Nat) (h : nI b ≤ x) : ¬ x < nI b := by
  rw [Int32.lt_iff_toInt_lt]
  rw [Int32.le_iff_toInt_le] at h
  omega
theorem mz_nn {x : Int32} (h : x < 0) : ¬ 0 ≤ x := by
  rw [Int32.le_iff_toInt_le]
  rw [Int32.lt_iff_toInt_lt] at h
  omega
theorem mz_ngN {x : Int32} (h : x < 0) (n : Nat) (hn : n < 2 ^ 31) : ¬ x = nI n := by
  intro e
  rw [e] at h
  exact nI_pos hn h
theorem mz_geN {x : Int32} (b : Nat) (h : nI b ≤ x) (n : Nat) (hn : n < b) (hb : b < 2 ^ 31) : ¬ x = nI n := by
  intro e
  rw [e] at h
  exact nI_ge hn hb h
theorem mz_st {P : (Nat → Int32) → Prop} {a : Nat → Int32} {v v' x : Int32} {N : Nat} (i : Nat) (hx : x = nI i) (hi : i < N) (hv : v = v') (k : P (upd a i v')) (hN : N < 2 ^ 31 := by omega) : vp_in x N ∧ ∀ y, y = upd a x.toNatClampNeg v → P y := by
  subst hx hv
  refine ⟨vp_in_nI hi hN, ?_⟩
  rw [nI_clamp (by omega)]
  exact nm_e k
theorem mz_rd {P : Int32 → Prop} {a : Nat → Int32} {v' x : Int32} {N : Nat} (i : Nat) (hx : x = nI i) (hi : i < N) (hv : a i = v') (k : P v') (hN : N < 2 ^ 31 := by omega) : vp_in x N ∧ P (a x.toNatClampNeg) := by
  subst hx hv
  refine ⟨vp_in_nI hi hN, ?_⟩
  rw [nI_clamp (by omega)]
  exact k
end
section
/-! the constructors -/
def mz_cl (x a b : Int32) : Int32 := if a ≤ x then (if x ≤ b then x else b) else a
theorem mz_ycl {P : Int32 → Prop} {x a b y : Int32} (c : mz_cl x a b = y) (h : P y) : (a ≤ x → ((x ≤ b → P x) ∧ (¬ x ≤ b → P b))) ∧ (¬ a ≤ x → P a) := by
  subst c
  unfold mz_cl at h
  refine ⟨fun h1 => ⟨fun h2 => ?_, fun h2 => ?_⟩, fun h1 => ?_⟩
  · rw [if_pos h1, if_pos h2] at h; exact h
  · rw [if_pos h1, if_neg h2] at h; exact h
  · rw [if_neg h1] at h; exact h
theorem mz_xcl {post : Int32 → Prop} {u : SX} {x a b y : Int32} (c : mz_cl x a b = y) (h : post y) : wpX_clamp post u x a b := by
  obtain ⟨a0, a1, a2, a3, a4, a5, a6, a7, a8, a9, a10, a11, a12, a13, a14, a15, a16, a17, a18, a19, a20⟩ := u
  unfold wpX_clamp
  exact mz_ycl (P := post) c h
theorem mz_cle (x : Int32) (a b : Nat) (hab : a ≤ b) (hb : b < 2 ^ 31) : ∃ m : Nat, a ≤ m ∧ m ≤ b ∧ mz_cl x (nI a) (nI b) = nI m := by
  unfold mz_cl
  by_cases h1 : nI a ≤ x
  · rw [if_pos h1]
    have h0 := mz_ge0 h1 (by omega)
    obtain ⟨j, hj, rfl⟩ := nI_of h0
    rw [nI_leI (by omega) hj] at h1
    by_cases h2 : nI j ≤ nI b
    · rw [if_pos h2]
      rw [nI_leI hj hb] at h2
      exact ⟨j, h1, h2, rfl⟩
    · rw [if_neg h2]
      exact ⟨b, hab, Nat.le_refl b, rfl⟩
  · rw [if_neg h1]
    exact ⟨a, Nat.le_refl a, hab, rfl⟩
def mz_fl (v : Int32) (i : Nat) : Nat → Int32 := fun j => if j < i then v else 0
theorem mz_fl0 (v : Int32) : mz_fl v 0 = (fun _ => 0) := funext fun j => if_neg (Nat.not_lt_zero j)
theorem mz_flu (v : Int32) (i : Nat) : upd (mz_fl v i) i v = mz_fl v (i + 1) := by
  funext j
  unfold upd mz_fl
  by_cases e : j = i
  · rw [if_pos e, if_pos (by omega)]
  · rw [if_neg e]
    by_cases l : j < i
    · rw [if_pos l, if_pos (by omega)]
    · rw [if_neg l, if_neg (by omega)]
theorem mz_flc {Q : Int32 → Prop} {v : Int32} {i : Nat} (h1 : Q v) (h2 : Q 0) : ∀ k, Q (mz_fl v i k) := by
  intro k
  unfold mz_fl
  by_cases l : k < i
  · rw [if_pos l]; exact h1
  · rw [if_neg l]; exact h2
section
variable {D E N R hd wt ns : Nat} {lm tg en wr ef pl ac np nd mk pt xo xa xb xc ei ec vq ve fp fe pe la sp si sv yo ya yb yc : Nat → Int32}
theorem mz_x229 {post : SX → Prop} : ∀ d i n, i + d = 4 → d < n → post (nI D, nI E, nI N, nI R, nI hd, nI wt, lm, mz_fl (-1) 4, en, wr, ef, pl, ac, np, nd, mz_fl 16 4, pt, xo, xa, xb, xc) → wX_init_229 post (nI D) (nI E) (nI N) (nI R) (nI hd) (nI wt) n (nI i) lm (mz_fl (-1) i) en wr ef pl ac np nd (mz_fl 16 i) pt xo xa xb xc := by
  intro d
  induction d with
  | zero =>
    intro i n hi hn h
    obtain ⟨n, rfl⟩ : ∃ m, n = m + 1 := ⟨n - 1, by omega⟩
    obtain rfl : i = 4 := by omega
    unfold wX_init_229
    exact br_t (by decide) h
  | succ d ih =>
    intro i n hi hn h
    obtain ⟨n, rfl⟩ : ∃ m, n = m + 1 := ⟨n - 1, by omega⟩
    unfold wX_init_229
    refine br_f (nI_ge (b := 4) (by omega) (by omega)) ?_
    refine mz_st i rfl (by omega) rfl ?_
    refine mz_st i rfl (by omega) rfl ?_
    refine nm_r (nI_1 i) ?_
    rw [mz_flu, mz_flu]
    exact ih (i + 1) n (by omega) (by omega) h
theorem mz_x171 {post : SX → Prop} : ∀ d i n, i + d = 32 → d < n → (∃ k, wX_init_229 post (nI D) (nI E) (nI N) (nI R) (nI hd) (nI wt) k 0 lm tg (mz_fl (-1) 32) (mz_fl 8 32) (mz_fl 8 32) (mz_fl (-1) 32) (mz_fl (-1) 32) np nd mk pt xo xa xb xc) → wX_init_171 post (nI D) (nI E) (nI N) (nI R) (nI hd) (nI wt) n (nI i) lm tg (mz_fl (-1) i) (mz_fl 8 i) (mz_fl 8 i) (mz_fl (-1) i) (mz_fl (-1) i) np nd mk pt xo xa xb xc := by
  intro d
  induction d with
  | zero =>
    intro i n hi hn h
    obtain ⟨n, rfl⟩ : ∃ m, n = m + 1 := ⟨n - 1, by omega⟩
    obtain rfl : i = 32 := by omega
    unfold wX_init_171
    exact br_t (by decide) h
  | succ d ih =>
    intro i n hi hn h
    obtain ⟨n, rfl⟩ : ∃ m, n = m + 1 := ⟨n - 1, by omega⟩
    unfold wX_init_171
    refine br_f (nI_ge (b := 32) (by omega) (by omega)) ?_
    refine mz_st i rfl (by omega) rfl ?_
    refine mz_st i rfl (by omega) rfl ?_
    refine mz_st i rfl (by omega) rfl ?_
    refine mz_st i rfl (by omega) rfl ?_
    refine mz_st i rfl (by omega) rfl ?_
    refine nm_r (nI_1 i) ?_
    rw [mz_flu, mz_flu]
    exact ih (i + 1) n (by omega) (by omega) h
theorem mz_y324 {post : SY → Prop} : ∀ d i n, i + d = 4 → d < n → post (nI D, nI E, nI N, nI R, nI ns, nI wt, lm, mz_fl (-1) 4, ei, ec, vq, ve, fp, fe, pe, la, ac, sp, si, sv, mz_fl 16 4, pt, yo, ya, yb, yc) → wY_init_324 post (nI D) (nI E) (nI N) (nI R) (nI ns) (nI wt) n (nI i) lm (mz_fl (-1) i) ei ec vq ve fp fe pe la ac sp si sv (mz_fl 16 i) pt yo ya yb yc := by
  intro d
  induction d with
  | zero =>
    intro i n hi hn h
    obtain ⟨n, rfl⟩ : ∃ m, n = m + 1 := ⟨n - 1, by omega⟩
    obtain rfl : i = 4 := by omega
    unfold wY_init_324
    exact br_t (by decide) h
  | succ d ih =>
    intro i n hi hn h
    obtain ⟨n, rfl⟩ : ∃ m, n = m + 1 := ⟨n - 1, by omega⟩
    unfold wY_init_324
    refine br_f (nI_ge (b := 4) (by omega) (by omega)) ?_
    refine mz_st i rfl (by omega) rfl ?_
    refine mz_st i rfl (by omega) rfl ?_
    refine nm_r (nI_1 i) ?_
    rw [mz_flu, mz_flu]
    exact ih (i + 1) n (by omega) (by omega) h
theorem mz_y266 {post : SY → Prop} : ∀ d i n, i + d = 32 → d < n → (∃ k, wY_init_324 post (nI D) (nI E) (nI N) (nI R) (nI ns) (nI wt) k 0 lm tg (mz_fl (-1) 32) ec (mz_fl 8 32) ve (mz_fl 8 32) fe (mz_fl (-1) 32) la (mz_fl (-1) 32) sp si sv mk pt yo ya yb yc) → wY_init_266 post (nI D) (nI E) (nI N) (nI R) (nI ns) (nI wt) n (nI i) lm tg (mz_fl (-1) i) ec (mz_fl 8 i) ve (mz_fl 8 i) fe (mz_fl (-1) i) la (mz_fl (-1) i) sp si sv mk pt yo ya yb yc := by
  intro d
  induction d with
  | zero =>
    intro i n hi hn h
    obtain ⟨n, rfl⟩ : ∃ m, n = m + 1 := ⟨n - 1, by omega⟩
    obtain rfl : i = 32 := by omega
    unfold wY_init_266
    exact br_t (by decide) h
  | succ d ih =>
    intro i n hi hn h
    obtain ⟨n, rfl⟩ : ∃ m, n = m + 1 := ⟨n - 1, by omega⟩
    unfold wY_init_266
    refine br_f (nI_ge (b := 32) (by omega) (by omega)) ?_
    refine mz_st i rfl (by omega) rfl ?_
    refine mz_st i rfl (by omega) rfl ?_
    refine mz_st i rfl (by omega) rfl ?_
    refine mz_st i rfl (by omega) rfl ?_
    refine mz_st i rfl (by omega) rfl ?_
    refine nm_r (nI_1 i) ?_
    rw [mz_flu, mz_flu]
    exact ih (i + 1) n (by omega) (by omega) h
theorem mz_i232 {post : SY → Prop} {x4 z0 d e i r n w y : Int32} (c : mz_cl x4 2 16 = y) (h : ∃ k, wY_init_266 post d e z0 y n w k 0 lm tg ei ec vq ve fp fe pe la ac sp si sv mk pt yo ya yb yc) : wY_init_232 post x4 z0 d e i r n w lm tg ei ec vq ve fp fe pe la ac sp si sv mk pt yo ya yb yc := by
  unfold wY_init_232
  exact mz_ycl (P := fun z => ∃ k, wY_init_266 post d e z0 z n w k 0 lm tg ei ec vq ve fp fe pe la ac sp si sv mk pt yo ya yb yc) c h
theorem mz_i205 {post : SY → Prop} {x3 x4 z0 d e i r n w y : Int32} (c : mz_cl x3 8 32 = y) (h : wY_init_232 post x4 y d z0 i r n w lm tg ei ec vq ve fp fe pe la ac sp si sv mk pt yo ya yb yc) : wY_init_205 post x3 x4 z0 d e i r n w lm tg ei ec vq ve fp fe pe la ac sp si sv mk pt yo ya yb yc := by
  unfold wY_init_205
  exact mz_ycl (P := fun z => wY_init_232 post x4 z d z0 i r n w lm tg ei ec vq ve fp fe pe la ac sp si sv mk pt yo ya yb yc) c h
theorem mz_i180 {post : SY → Prop} {x2 x3 x4 z0 d e i r n w y : Int32} (c : mz_cl x2 1 8 = y) (h : wY_init_205 post x3 x4 y z0 e i r n w lm tg ei ec vq ve fp fe pe la ac sp si sv mk pt yo ya yb yc) : wY_init_180 post x2 x3 x4 z0 d e i r n w lm tg ei ec vq ve fp fe pe la ac sp si sv mk pt yo ya yb yc := by
  unfold wY_init_180
  exact mz_ycl (P := fun z => wY_init_205 post x3 x4 z z0 e i r n w lm tg ei ec vq ve fp fe pe la ac sp si sv mk pt yo ya yb yc) c h
theorem mz_iY {post : SY → Prop} {p0 p1 p2 p3 y : Int32} (c : mz_cl p0 1 4 = y) (h : wY_init_180 post p1 p2 p3 y 0 0 0 0 0 0 (fun _ => 0) (fun _ => 0) (fun _ => 0) (fun _ => 0) (fun _ => 0) (fun _ => 0) (fun _ => 0) (fun _ => 0) (fun _ => 0) (fun _ => 0) (fun _ => 0) (fun _ => 0) (fun _ => 0) (fun _ => 0) (fun _ => 0) (fun _ => 0) (fun _ => 0) (fun _ => 0) (fun _ => 0) (fun _ => 0)) : wpY_init post p0 p1 p2 p3 := by
  unfold wpY_init
  exact mz_ycl (P := fun z => wY_init_180 post p1 p2 p3 z 0 0 0 0 0 0 (fun _ => 0) (fun _ => 0) (fun _ => 0) (fun _ => 0) (fun _ => 0) (fun _ => 0) (fun _ => 0) (fun _ => 0) (fun _ => 0) (fun _ => 0) (fun _ => 0) (fun _ => 0) (fun _ => 0) (fun _ => 0) (fun _ => 0) (fun _ => 0) (fun _ => 0) (fun _ => 0) (fun _ => 0) (fun _ => 0)) c h
end
theorem mz_iYY {post : SY → Prop} {p0 p1 p2 p3 : Int32} {D E N R : Nat} (c0 : mz_cl p0 1 4 = nI D) (c1 : mz_cl p1 1 8 = nI E) (c2 : mz_cl p2 8 32 = nI N) (c3 : mz_cl p3 2 16 = nI R)
    (h : post (nI D, nI E, nI N, nI R, 0, 0, (fun _ => 0), mz_fl (-1) 4, mz_fl (-1) 32, (fun _ => 0), mz_fl 8 32, (fun _ => 0), mz_fl 8 32, (fun _ => 0), mz_fl (-1) 32, (fun _ => 0), mz_fl (-1) 32, (fun _ => 0), (fun _ => 0), (fun _ => 0), mz_fl 16 4, (fun _ => 0), (fun _ => 0), (fun _ => 0), (fun _ => 0), (fun _ => 0))) : wpY_init post p0 p1 p2 p3 := by
  refine mz_iY c0 (mz_i180 c1 (mz_i205 c2 (mz_i232 c3 ⟨33, ?_⟩)))
  have y := mz_y324 (post := post) (D := D) (E := E) (N := N) (R := R) (ns := 0) (wt := 0) (lm := fun _ => 0) (ei := mz_fl (-1) 32) (ec := fun _ => 0) (vq := mz_fl 8 32) (ve := fun _ => 0) (fp := mz_fl 8 32) (fe := fun _ => 0) (pe := mz_fl (-1) 32) (la := fun _ => 0) (ac := mz_fl (-1) 32) (sp := fun _ => 0) (si := fun _ => 0) (sv := fun _ => 0) (pt := fun _ => 0) (yo := fun _ => 0) (ya := fun _ => 0) (yb := fun _ => 0) (yc := fun _ => 0) 4 0 5 (by omega) (by omega) h
  rw [mz_fl0, mz_fl0] at y
  have z := mz_y266 (post := post) (D := D) (E := E) (N := N) (R := R) (ns := 0) (wt := 0) (lm := fun _ => 0) (tg := fun _ => 0) (ec := fun _ => 0) (ve := fun _ => 0) (fe := fun _ => 0) (la := fun _ => 0) (sp := fun _ => 0) (si := fun _ => 0) (sv := fun _ => 0) (mk := fun _ => 0) (pt := fun _ => 0) (yo := fun _ => 0) (ya := fun _ => 0) (yb := fun _ => 0) (yc := fun _ => 0) 32 0 33 (by omega) (by omega) ⟨5, y⟩
  rw [mz_fl0, mz_fl0] at z
  exact z
theorem mz_iXX {post : SX → Prop} {p0 p1 p2 p3 : Int32} {D E N R : Nat} (c0 : mz_cl p0 1 4 = nI D) (c1 : mz_cl p1 1 8 = nI E) (c2 : mz_cl p2 8 32 = nI N) (c3 : mz_cl p3 2 16 = nI R)
    (h : post (nI D, nI E, nI N, nI R, 0, 0, (fun _ => 0), mz_fl (-1) 4, mz_fl (-1) 32, mz_fl 8 32, mz_fl 8 32, mz_fl (-1) 32, mz_fl (-1) 32, (fun _ => 0), (fun _ => 0), mz_fl 16 4, (fun _ => 0), (fun _ => 0), (fun _ => 0), (fun _ => 0), (fun _ => 0))) : wpX_init post p0 p1 p2 p3 := by
  unfold wpX_init
  refine mz_xcl c0 (mz_xcl c1 (mz_xcl c2 (mz_xcl c3 ⟨33, ?_⟩)))
  have y := mz_x229 (post := post) (D := D) (E := E) (N := N) (R := R) (hd := 0) (wt := 0) (lm := fun _ => 0) (en := mz_fl (-1) 32) (wr := mz_fl 8 32) (ef := mz_fl 8 32) (pl := mz_fl (-1) 32) (ac := mz_fl (-1) 32) (np := fun _ => 0) (nd := fun _ => 0) (pt := fun _ => 0) (xo := fun _ => 0) (xa := fun _ => 0) (xb := fun _ => 0) (xc := fun _ => 0) 4 0 5 (by omega) (by omega) h
  rw [mz_fl0, mz_fl0] at y
  have z := mz_x171 (post := post) (D := D) (E := E) (N := N) (R := R) (hd := 0) (wt := 0) (lm := fun _ => 0) (tg := fun _ => 0) (np := fun _ => 0) (nd := fun _ => 0) (mk := fun _ => 0) (pt := fun _ => 0) (xo := fun _ => 0) (xa := fun _ => 0) (xb := fun _ => 0) (xc := fun _ => 0) 32 0 33 (by omega) (by omega) ⟨5, y⟩
  rw [mz_fl0, mz_fl0] at z
  exact z
theorem mz_n0 {N : Nat} : mz_Nst N 0 (mz_fl (-1) 32) (fun _ => 0) (fun _ => 0) (fun _ => 0) (fun _ => 0) (fun _ => 0) :=
  ⟨fun _ => 0, fun _ => 0, fun _ => 0, fun j h => absurd h (Nat.not_lt_zero j), fun p _ => rfl, fun j j' _ h => absurd h (Nat.not_lt_zero j'), by omega⟩
theorem i_vc0 (k0 : Int32) (k1 : Int32) (k2 : Int32) (k3 : Int32) : wpX_init (fun u => wpY_init (fun v => i_Rel 4 u v) k0 k1 k2 k3) k0 k1 k2 k3 := by
  obtain ⟨D, d1, d2, c0⟩ := mz_cle k0 1 4 (by omega) (by omega)
  obtain ⟨E, e1, e2, c1⟩ := mz_cle k1 1 8 (by omega) (by omega)
  obtain ⟨N, n1, n2, c2⟩ := mz_cle k2 8 32 (by omega) (by omega)
  obtain ⟨R, r1, r2, c3⟩ := mz_cle k3 2 16 (by omega) (by omega)
  refine mz_iXX c0 c1 c2 c3 (mz_iYY c0 c1 c2 c3 ?_)
  have t1 : ∀ k, mz_Opt (mz_fl (-1) 4 k) := mz_flc (Or.inl rfl) (Or.inr ⟨0, by omega, rfl⟩)
  have t2 : ∀ k, mz_Opt (mz_fl (-1) 32 k) := mz_flc (Or.inl rfl) (Or.inr ⟨0, by omega, rfl⟩)
  have t3 : ∀ k, mz_EnR N (mz_fl (-1) 32 k) (mz_fl (-1) 32 k) 0 := mz_flc (Q := fun x => mz_EnR N x x 0) ⟨0, by omega, rfl, Or.inl ⟨rfl, rfl⟩⟩ ⟨0, by omega, rfl, Or.inr ⟨0, by omega, rfl, rfl⟩⟩
  have t4 : ∀ k, mz_CfR (mz_fl 8 32 k) (mz_fl 8 32 k) 0 := mz_flc (Q := fun x => mz_CfR x x 0) ⟨8, 0, by omega, by omega, rfl, rfl, rfl⟩ ⟨0, 0, by omega, by omega, rfl, rfl, rfl⟩
  have t5 : ∀ k, mz_PlR (mz_fl (-1) 32 k) (mz_fl (-1) 32 k) 0 := mz_flc (Q := fun x => mz_PlR x x 0) (Or.inl ⟨rfl, rfl⟩) (Or.inr ⟨0, by omega, rfl, Or.inl ⟨rfl, rfl⟩⟩)
  refine mz_in (hd := 0) (wt := 0) (ns := 0) ⟨⟨d1, d2, e1, e2, n1, n2, r1, r2⟩, ⟨fun _ => ⟨0, by omega, rfl⟩, t1, t3, t4, t5⟩, t4, t2, mz_n0, by omega, by omega, fun k h => absurd h (Nat.not_lt_zero k)⟩
end
section
/-! configure, submit, setInterface, table, command -/
theorem i_vc_configure {k : Nat} {u : SX} {v : SY} (I : i_Rel k u v) (hk : k + 5 ≤ 2564) (v1 : Int32) (v2 : Int32) (v3 : Int32) : wpX_configure (fun r u' => wpY_configure (fun r' v' => r' = r ∧ i_Rel (k + 5) u' v') v v1 v2 v3) u v1 v2 v3 := by
  refine mz_el (P := fun u v => wpX_configure (fun r u' => wpY_configure (fun r' v' => r' = r ∧ i_Rel (k + 5) u' v') v v1 v2 v3) u v1 v2 v3) ?_ I
  intro D E N R hd wt ns lm tg en wr ef pl ac np nd mk pt xo xa xb xc ei ec vq ve fp fe pe la sp si sv yo ya yb yc F
  have J : i_Rel (k + 5) (nI D, nI E, nI N, nI R, nI hd, nI wt, lm, tg, en, wr, ef, pl, ac, np, nd, mk, pt, xo, xa, xb, xc) (nI D, nI E, nI N, nI R, nI ns, nI wt, lm, tg, ei, ec, vq, ve, fp, fe, pe, la, ac, sp, si, sv, mk, pt, yo, ya, yb, yc) := mz_in F
  obtain ⟨⟨d1, d2, e1, e2, n1, n2, r1, r2⟩, T, C, A, G, Q⟩ := F
  unfold wpX_configure wpY_configure
  rcases pk_ix v1 (n := N) (by omega) with h | h | ⟨i, hi, rfl⟩
  · exact mz_w0 (Or.inl h) (br_t rfl (br_t h ⟨rfl, J⟩))
  · exact mz_w0 (Or.inr h) (br_t rfl (br_f (mz_ge0 h (by omega)) (br_t h ⟨rfl, J⟩)))
  refine mz_w1 N hi (by omega) (br_f mz_10 ?_)
  rcases pk_ix v2 (n := 16) (by omega) with h | h | ⟨p, hp, rfl⟩
  · exact mz_w0 (Or.inl h) (br_t rfl (br_f (nI_pos (by omega)) (br_f (nI_ge hi (by omega)) (br_t h ⟨rfl, J⟩))))
  · exact mz_w0 (Or.inr h) (br_t rfl (br_f (nI_pos (by omega)) (br_f (nI_ge hi (by omega)) (br_f (mz_ge0 h (by omega)) (br_f (mz_gtl 15 16 h (by omega) (by omega)) ⟨rfl, J⟩)))))
  refine mz_w1 16 hp (by omega) (br_f mz_10 ?_)
  rcases pk_ix v3 (n := 2) (by omega) with h | h | ⟨e, he, rfl⟩
  · exact mz_w0 (Or.inl h) (br_t rfl (br_f (nI_pos (by omega)) (br_f (nI_ge hi (by omega)) (br_f (nI_pos (by omega)) (br_t (nI_le (b := 15) (by omega) (by omega)) (br_f (mz_ngN h 0 (by omega)) (br_f (mz_ngN h 1 (by omega)) ⟨rfl, J⟩)))))))
  · exact mz_w0 (Or.inr h) (br_t rfl (br_f (nI_pos (by omega)) (br_f (nI_ge hi (by omega)) (br_f (nI_pos (by omega)) (br_t (nI_le (b := 15) (by omega) (by omega)) (br_f (mz_geN 2 h 0 (by omega) (by omega)) (br_f (mz_geN 2 h 1 (by omega) (by omega)) ⟨rfl, J⟩)))))))
  refine mz_w1 2 he (by omega) (br_f mz_10 ?_)
  refine mz_st i rfl (by omega) (mz_b16 p e) ?_
  have K : ∀ k', i_Rel k' (nI D, nI E, nI N, nI R, nI hd, nI wt, lm, tg, en, upd wr i (nI (p + 16 * e)), ef, pl, ac, np, nd, mk, pt, xo, xa, xb, xc) (nI D, nI E, nI N, nI R, nI ns, nI wt, lm, tg, ei, ec, upd vq i (nI p), upd ve i (nI e), fp, fe, pe, la, ac, sp, si, sv, mk, pt, yo, ya, yb, yc) := fun k' =>
    mz_in ⟨⟨d1, d2, e1, e2, n1, n2, r1, r2⟩, T, mz_up3 C ⟨p, e, hp, he, rfl, rfl, rfl⟩, A, G, Q⟩
  have Z : wY_configure_35 (fun r' v' => r' = 1 ∧ i_Rel (k + 5) (nI D, nI E, nI N, nI R, nI hd, nI wt, lm, tg, en, upd wr i (nI (p + 16 * e)), ef, pl, ac, np, nd, mk, pt, xo, xa, xb, xc) v') (nI i) (nI p) (nI e) (nI D) (nI E) (nI N) (nI R) (nI ns) (nI wt) lm tg ei ec vq ve fp fe pe la ac sp si sv mk pt yo ya yb yc := by
    unfold wY_configure_35
    exact mz_st i rfl (by omega) rfl (mz_st i rfl (by omega) rfl ⟨rfl, K _⟩)
  refine br_f (nI_pos (by omega)) (br_f (nI_ge hi (by omega)) (br_f (nI_pos (by omega)) (br_t (nI_le (b := 15) (by omega) (by omega)) ?_)))
  exact br_c (fun _ => Z) (fun z => br_t (by
    have e1 : e = 1 := by
      rcases Nat.lt_or_ge e 1 with l | l
      · exact absurd (congrArg nI (show e = 0 by omega)) z
      · omega
    rw [e1]; rfl) Z)
theorem i_vc_setInterface {k : Nat} {u : SX} {v : SY} (I : i_Rel k u v) (hk : k + 5 ≤ 2564) (v1 : Int32) (v2 : Int32) (v3 : Int32) : wpX_setInterface (fun r u' => wpY_setInterface (fun r' v' => r' = r ∧ i_Rel (k + 5) u' v') v v1 v2 v3) u v1 v2 v3 := by
  refine mz_el (P := fun u v => wpX_setInterface (fun r u' => wpY_setInterface (fun r' v' => r' = r ∧ i_Rel (k + 5) u' v') v v1 v2 v3) u v1 v2 v3) ?_ I
  intro D E N R hd wt ns lm tg en wr ef pl ac np nd mk pt xo xa xb xc ei ec vq ve fp fe pe la sp si sv yo ya yb yc F
  have J : i_Rel (k + 5) (nI D, nI E, nI N, nI R, nI hd, nI wt, lm, tg, en, wr, ef, pl, ac, np, nd, mk, pt, xo, xa, xb, xc) (nI D, nI E, nI N, nI R, nI ns, nI wt, lm, tg, ei, ec, vq, ve, fp, fe, pe, la, ac, sp, si, sv, mk, pt, yo, ya, yb, yc) := mz_in F
  unfold wpX_setInterface wpY_setInterface
  rcases pk_ix v1 (n := 4) (by omega) with h | h | ⟨i, hi, rfl⟩
  · exact mz_w0 (Or.inl h) (br_t rfl (br_t h ⟨rfl, J⟩))
  · exact mz_w0 (Or.inr h) (br_t rfl (br_f (mz_ge0 h (by omega)) (br_t (mz_gt 3 4 h (by omega) (by omega)) ⟨rfl, J⟩)))
  refine mz_w1 4 hi (by omega) (br_f mz_10 ?_)
  rcases pk_ix v2 (n := 17) (by omega) with h | h | ⟨p, hp, rfl⟩
  · exact mz_w0 (Or.inl h) (br_t rfl (br_f (nI_pos (by omega)) (br_f (nI_nlt (a := 3) (by omega) (by omega)) (br_t h ⟨rfl, J⟩))))
  · exact mz_w0 (Or.inr h) (br_t rfl (br_f (nI_pos (by omega)) (br_f (nI_nlt (a := 3) (by omega) (by omega)) (br_f (mz_ge0 h (by omega)) (br_t (mz_gt 16 17 h (by omega) (by omega)) ⟨rfl, J⟩)))))
  refine mz_w1 17 hp (by omega) (br_f mz_10 ?_)
  rcases pk_ix v3 (n := 5) (by omega) with h | h | ⟨e, he, rfl⟩
  · exact mz_w0 (Or.inl h) (br_t rfl (br_f (nI_pos (by omega)) (br_f (nI_nlt (a := 3) (by omega) (by omega)) (br_f (nI_pos (by omega)) (br_f (nI_nlt (a := 16) (by omega) (by omega)) (br_t h ⟨rfl, J⟩))))))
  · exact mz_w0 (Or.inr h) (br_t rfl (br_f (nI_pos (by omega)) (br_f (nI_nlt (a := 3) (by omega) (by omega)) (br_f (nI_pos (by omega)) (br_f (nI_nlt (a := 16) (by omega) (by omega)) (br_f (mz_ge0 h (by omega)) (br_f (mz_gtl 4 5 h (by omega) (by omega)) ⟨rfl, J⟩)))))))
  refine mz_w1 5 he (by omega) (br_f mz_10 ?_)
  have K : i_Rel (k + 5) (nI D, nI E, nI N, nI R, nI hd, nI wt, lm, tg, en, wr, ef, pl, ac, np, nd, upd mk i (nI p), upd pt i (nI e), xo, xa, xb, xc) (nI D, nI E, nI N, nI R, nI ns, nI wt, lm, tg, ei, ec, vq, ve, fp, fe, pe, la, ac, sp, si, sv, upd mk i (nI p), upd pt i (nI e), yo, ya, yb, yc) := mz_in F
  refine mz_st i rfl hi rfl (mz_st i rfl hi rfl ?_)
  refine br_f (nI_pos (by omega)) (br_f (nI_nlt (a := 3) (by omega) (by omega)) (br_f (nI_pos (by omega)) (br_f (nI_nlt (a := 16) (by omega) (by omega)) (br_f (nI_pos (by omega)) (br_t (nI_le (b := 4) (by omega) (by omega)) ?_)))))
  exact mz_st i rfl hi rfl (mz_st i rfl hi rfl ⟨rfl, K⟩)
theorem i_vc_submit {k : Nat} {u : SX} {v : SY} (I : i_Rel k u v) (hk : k + 5 ≤ 2564) (v1 : Int32) (v2 : Int32) (v3 : Int32) (v4 : Int32) : wpX_submit (fun r u' => wpY_submit (fun r' v' => r' = r ∧ i_Rel (k + 5) u' v') v v1 v2 v3 v4) u v1 v2 v3 v4 := by
  refine mz_el (P := fun u v => wpX_submit (fun r u' => wpY_submit (fun r' v' => r' = r ∧ i_Rel (k + 5) u' v') v v1 v2 v3 v4) u v1 v2 v3 v4) ?_ I
  intro D E N R hd wt ns lm tg en wr ef pl ac np nd mk pt xo xa xb xc ei ec vq ve fp fe pe la sp si sv yo ya yb yc F
  have J : i_Rel (k + 5) (nI D, nI E, nI N, nI R, nI hd, nI wt, lm, tg, en, wr, ef, pl, ac, np, nd, mk, pt, xo, xa, xb, xc) (nI D, nI E, nI N, nI R, nI ns, nI wt, lm, tg, ei, ec, vq, ve, fp, fe, pe, la, ac, sp, si, sv, mk, pt, yo, ya, yb, yc) := mz_in F
  obtain ⟨⟨d1, d2, e1, e2, n1, n2, r1, r2⟩, T, C, A, G, q1, q2, q3⟩ := F
  unfold wpX_submit wpY_submit
  rcases pk_ix v1 (n := 10) (by omega) with h | h | ⟨o, ho, rfl⟩
  · exact mz_w0 (Or.inl h) (br_t rfl (br_t h ⟨rfl, J⟩))
  · exact mz_w0 (Or.inr h) (br_t rfl (br_f (mz_ge0 h (by omega)) (br_f (mz_gtl 9 10 h (by omega) (by omega)) ⟨rfl, J⟩)))
  refine mz_w1 10 ho (by omega) (br_f mz_10 ?_)
  by_cases hw : wt < R
  · have K : i_Rel (k + 5) (nI D, nI E, nI N, nI R, nI hd, nI (wt + 1), lm, tg, en, wr, ef, pl, ac, np, nd, mk, pt, upd xo ((hd + wt) % 16) (nI o), upd xa ((hd + wt) % 16) v2, upd xb ((hd + wt) % 16) v3, upd xc ((hd + wt) % 16) v4) (nI D, nI E, nI N, nI R, nI ns, nI (wt + 1), lm, tg, ei, ec, vq, ve, fp, fe, pe, la, ac, sp, si, sv, mk, pt, upd yo wt (nI o), upd ya wt v2, upd yb wt v3, upd yc wt v4) := by
      refine mz_in ⟨⟨d1, d2, e1, e2, n1, n2, r1, r2⟩, T, C, A, G, q1, by omega, ?_⟩
      intro j hj
      by_cases e : j = wt
      · subst e
        rw [pk_us, pk_us, pk_us, pk_us, pk_us, pk_us, pk_us, pk_us]
        exact ⟨⟨o, ho, rfl⟩, rfl, rfl, rfl, rfl⟩
      · have l : (hd + j) % 16 ≠ (hd + wt) % 16 := by omega
        rw [pk_un e, pk_un e, pk_un e, pk_un e, pk_un l, pk_un l, pk_un l, pk_un l]
        exact q3 j (by omega)
    refine br_t (nI_lt hw (by omega)) ⟨mz_d16, ?_⟩
    refine nm_r (e' := nI ((hd + wt) % 16)) (by rw [nI_add]; exact mz_r16 (by omega) rfl) ?_
    have l : (hd + wt) % 16 < 16 := by omega
    refine mz_st _ rfl l rfl (mz_st _ rfl l rfl (mz_st _ rfl l rfl (mz_st _ rfl l rfl (nm_r (nI_1 wt) ?_))))
    refine br_f (nI_pos (by omega)) (br_t (nI_le (b := 9) (by omega) (by omega)) (br_t (nI_lt hw (by omega)) ?_))
    have m : wt < 16 := by omega
    exact mz_st _ rfl m rfl (mz_st _ rfl m rfl (mz_st _ rfl m rfl (mz_st _ rfl m rfl (nm_r (nI_1 wt) ⟨rfl, K⟩))))
  · refine br_f (nI_nlt (by omega) (by omega)) ?_
    exact br_f (nI_pos (by omega)) (br_t (nI_le (b := 9) (by omega) (by omega)) (br_f (nI_nlt (by omega) (by omega)) ⟨rfl, J⟩))
end
section
/-! table, command -/
theorem i_vc_table {k : Nat} {u : SX} {v : SY} (I : i_Rel k u v) (hk : k + 5 ≤ 2564) (v1 : Int32) (v2 : Int32) : wpX_table (fun r => wpY_table (fun r' => r' = r ∧ i_Rel (k + 5) u v) v v1 v2) u v1 v2 := by
  refine mz_el (P := fun u v => wpX_table (fun r => wpY_table (fun r' => r' = r ∧ i_Rel (k + 5) u v) v v1 v2) u v1 v2) ?_ I
  intro D E N R hd wt ns lm tg en wr ef pl ac np nd mk pt xo xa xb xc ei ec vq ve fp fe pe la sp si sv yo ya yb yc F
  have J : i_Rel (k + 5) (nI D, nI E, nI N, nI R, nI hd, nI wt, lm, tg, en, wr, ef, pl, ac, np, nd, mk, pt, xo, xa, xb, xc) (nI D, nI E, nI N, nI R, nI ns, nI wt, lm, tg, ei, ec, vq, ve, fp, fe, pe, la, ac, sp, si, sv, mk, pt, yo, ya, yb, yc) := mz_in F
  revert J
  generalize i_Rel (k + 5) (nI D, nI E, nI N, nI R, nI hd, nI wt, lm, tg, en, wr, ef, pl, ac, np, nd, mk, pt, xo, xa, xb, xc) (nI D, nI E, nI N, nI R, nI ns, nI wt, lm, tg, ei, ec, vq, ve, fp, fe, pe, la, ac, sp, si, sv, mk, pt, yo, ya, yb, yc) = JJ
  intro J
  obtain ⟨⟨d1, d2, e1, e2, n1, n2, r1, r2⟩, ⟨T1, T2, T3, T4, T5⟩, C, A, G, Q⟩ := F
  unfold wpX_table wpY_table
  by_cases k0 : v2 < 0
  · have y : ¬ 0 ≤ v2 := mz_nn k0
    rcases pk_ix v1 (n := 5) (by omega) with h | h | ⟨j, hj, rfl⟩
    · exact br_t h (br_f y ⟨rfl, J⟩)
    · exact br_f (mz_ge0 h (by omega)) (br_t (mz_gt 4 5 h (by omega) (by omega)) (br_f y ⟨rfl, J⟩))
    · refine br_f (nI_pos (by omega)) (br_f (nI_nlt (a := 4) (by omega) (by omega)) ?_)
      refine br_c (fun _ => mz_w0 (Or.inl k0) (br_t rfl (br_f y ⟨rfl, J⟩))) (fun _ => ?_)
      refine br_c (fun _ => mz_w0 (Or.inl k0) (br_t rfl (br_f y ⟨rfl, J⟩))) (fun _ => ?_)
      refine br_c (fun _ => ?_) (fun _ => ?_)
      · unfold wpX_entryAt
        exact br_t k0 (br_f y ⟨rfl, J⟩)
      refine br_c (fun _ => mz_w0 (Or.inl k0) (br_t rfl (br_f y ⟨rfl, J⟩))) (fun _ => ?_)
      refine br_c (fun _ => ?_) (fun _ => trivial)
      unfold wpX_sizeOf
      exact br_t k0 (br_f y ⟨rfl, J⟩)
  · obtain ⟨m, hm, rfl⟩ := nI_of k0
    have y : (0 : Int32) ≤ nI m := nI_pos' hm
    rcases pk_ix v1 (n := 5) (by omega) with h | h | ⟨j, hj, rfl⟩
    · exact br_t h (br_t y (br_f (mz_ngN h 0 (by omega)) (br_f (mz_ngN h 1 (by omega)) (br_f (mz_ngN h 2 (by omega)) (br_f (mz_ngN h 3 (by omega)) (br_f (mz_ngN h 4 (by omega)) ⟨rfl, J⟩))))))
    · exact br_f (mz_ge0 h (by omega)) (br_t (mz_gt 4 5 h (by omega) (by omega)) (br_t y (br_f (mz_geN 5 h 0 (by omega) (by omega)) (br_f (mz_geN 5 h 1 (by omega) (by omega)) (br_f (mz_geN 5 h 2 (by omega) (by omega)) (br_f (mz_geN 5 h 3 (by omega) (by omega)) (br_f (mz_geN 5 h 4 (by omega) (by omega)) ⟨rfl, J⟩)))))))
    · refine br_f (nI_pos (by omega)) (br_f (nI_nlt (a := 4) (by omega) (by omega)) ?_)
      have c : j = 0 ∨ j = 1 ∨ j = 2 ∨ j = 3 ∨ j = 4 := by omega
      rcases c with rfl | rfl | rfl | rfl | rfl
      · refine br_t rfl ?_
        by_cases l : m < D
        · exact mz_w1 D l (by omega) (br_f mz_10 ⟨vp_in_nI (by omega) (by omega), br_t y (br_t rfl (br_f (nI_ge l (by omega)) ⟨vp_in_nI (by omega) (by omega), rfl, J⟩))⟩)
        · exact mz_w0 (Or.inr (nI_le (by omega) hm)) (br_t rfl (br_t y (br_t rfl (br_t (nI_le (by omega) hm) ⟨rfl, J⟩))))
      · refine br_f (by decide) (br_t rfl ?_)
        by_cases l : m < 4
        · exact mz_w1 4 l (by omega) (br_f mz_10 ⟨vp_in_nI (by omega) (by omega), br_t y (br_f (by decide) (br_t rfl (br_f (nI_ge (b := 4) l (by omega)) ⟨vp_in_nI (by omega) (by omega), rfl, J⟩)))⟩)
        · exact mz_w0 (Or.inr (nI_le (a := 4) (by omega) hm)) (br_t rfl (br_t y (br_f (by decide) (br_t rfl (br_t (nI_le (a := 4) (by omega) hm) ⟨rfl, J⟩)))))
      · refine br_f (by decide) (br_f (by decide) (br_t rfl ?_))
        unfold wpX_entryAt
        rw [mz_r8 hm rfl, mz_q8 hm rfl, nI_clamp hm]
        refine br_f k0 ⟨mz_d8, ?_⟩
        by_cases l : m / 8 < D
        · refine br_f (nI_ge l (by omega)) ⟨mz_d8, ?_⟩
          by_cases l2 : m % 8 < E
          · refine br_t (nI_lt l2 (by omega)) ⟨vp_in_nI (by omega) (by omega), ?_⟩
            refine br_t y (br_f (by decide) (br_f (by decide) (br_t rfl ⟨mz_d8, br_f (nI_ge l (by omega)) ⟨mz_d8, br_t (nI_lt l2 (by omega)) ⟨vp_in_nI (by omega) (by omega), ?_⟩⟩⟩)))
            obtain ⟨q, hq, ec', ⟨h1, h2⟩ | ⟨t, ht, h1, h2⟩⟩ := T3 m
            · exact br_t h2 ⟨h1.symm, J⟩
            · refine br_f (by rw [h1]; exact mz_nm1 (by omega)) ⟨vp_in_nI (by omega) (by omega), vp_in_nI (by omega) (by omega), ?_, J⟩
              rw [h1, h2, ec', mz_a4]
          · refine br_f (nI_nlt (by omega) (by omega)) ?_
            exact br_t y (br_f (by decide) (br_f (by decide) (br_t rfl ⟨mz_d8, br_f (nI_ge l (by omega)) ⟨mz_d8, br_f (nI_nlt (by omega) (by omega)) ⟨rfl, J⟩⟩⟩)))
        · refine br_t (nI_le (by omega) (by omega)) ?_
          exact br_t y (br_f (by decide) (br_f (by decide) (br_t rfl ⟨mz_d8, br_t (nI_le (by omega) (by omega)) ⟨rfl, J⟩⟩)))
      · refine br_f (by decide) (br_f (by decide) (br_f (by decide) (br_t rfl ?_)))
        by_cases l : m < 4
        · exact mz_w1 4 l (by omega) (br_f mz_10 ⟨vp_in_nI (by omega) (by omega), vp_in_nI (by omega) (by omega), br_t y (br_f (by decide) (br_f (by decide) (br_f (by decide) (br_t rfl (br_f (nI_ge (b := 4) l (by omega)) ⟨vp_in_nI (by omega) (by omega), vp_in_nI (by omega) (by omega), rfl, J⟩)))))⟩)
        · exact mz_w0 (Or.inr (nI_le (a := 4) (by omega) hm)) (br_t rfl (br_t y (br_f (by decide) (br_f (by decide) (br_f (by decide) (br_t rfl (br_t (nI_le (a := 4) (by omega) hm) ⟨rfl, J⟩)))))))
      · refine br_f (by decide) (br_f (by decide) (br_f (by decide) (br_f (by decide) (br_t rfl ?_))))
        unfold wpX_sizeOf
        by_cases l : m < 4
        · refine br_f k0 (br_f (nI_nlt (a := 3) (by omega) (by omega)) ?_)
          have c : m = 0 ∨ m = 1 ∨ m = 2 ∨ m = 3 := by omega
          rcases c with rfl | rfl | rfl | rfl
          · exact br_t rfl (br_t y (br_f (by decide) (br_f (by decide) (br_f (by decide) (br_f (by decide) (br_t rfl (br_t (by decide) (br_t rfl ⟨rfl, J⟩))))))))
          · exact br_f (by decide) (br_t rfl (br_t y (br_f (by decide) (br_f (by decide) (br_f (by decide) (br_f (by decide) (br_t rfl (br_t (by decide) (br_f (by decide) (br_t rfl ⟨rfl, J⟩))))))))))
          · exact br_f (by decide) (br_f (by decide) (br_t rfl (br_t y (br_f (by decide) (br_f (by decide) (br_f (by decide) (br_f (by decide) (br_t rfl (br_t (by decide) (br_f (by decide) (br_f (by decide) (br_t rfl ⟨rfl, J⟩))))))))))))
          · exact br_f (by decide) (br_f (by decide) (br_f (by decide) (br_t rfl (br_t y (br_f (by decide) (br_f (by decide) (br_f (by decide) (br_f (by decide) (br_t rfl (br_t (by decide) (br_f (by decide) (br_f (by decide) (br_f (by decide) ⟨rfl, J⟩)))))))))))))
        · refine br_f k0 (br_t (nI_lt (a := 3) (by omega) hm) ?_)
          exact br_t y (br_f (by decide) (br_f (by decide) (br_f (by decide) (br_f (by decide) (br_t rfl (br_f (nI_ge (a := 3) (by omega) hm) ⟨rfl, J⟩))))))
theorem i_vc_command {k : Nat} {u : SX} {v : SY} (I : i_Rel k u v) (hk : k + 5 ≤ 2564) (v1 : Int32) (v2 : Int32) : wpX_command (fun r => wpY_command (fun r' => r' = r ∧ i_Rel (k + 5) u v) v v1 v2) u v1 v2 := by
  refine mz_el (P := fun u v => wpX_command (fun r => wpY_command (fun r' => r' = r ∧ i_Rel (k + 5) u v) v v1 v2) u v1 v2) ?_ I
  intro D E N R hd wt ns lm tg en wr ef pl ac np nd mk pt xo xa xb xc ei ec vq ve fp fe pe la sp si sv yo ya yb yc F
  have J : i_Rel (k + 5) (nI D, nI E, nI N, nI R, nI hd, nI wt, lm, tg, en, wr, ef, pl, ac, np, nd, mk, pt, xo, xa, xb, xc) (nI D, nI E, nI N, nI R, nI ns, nI wt, lm, tg, ei, ec, vq, ve, fp, fe, pe, la, ac, sp, si, sv, mk, pt, yo, ya, yb, yc) := mz_in F
  revert J
  generalize i_Rel (k + 5) (nI D, nI E, nI N, nI R, nI hd, nI wt, lm, tg, en, wr, ef, pl, ac, np, nd, mk, pt, xo, xa, xb, xc) (nI D, nI E, nI N, nI R, nI ns, nI wt, lm, tg, ei, ec, vq, ve, fp, fe, pe, la, ac, sp, si, sv, mk, pt, yo, ya, yb, yc) = JJ
  intro J
  obtain ⟨⟨d1, d2, e1, e2, n1, n2, r1, r2⟩, T, C, A, G, q1, q2, q3⟩ := F
  unfold wpX_command wpY_command
  rcases pk_ix v1 (n := wt) (by omega) with h | h | ⟨i, hi, rfl⟩
  · exact mz_w0 (Or.inl h) (br_t rfl (br_t h ⟨rfl, J⟩))
  · exact mz_w0 (Or.inr h) (br_t rfl (br_f (mz_ge0 h (by omega)) (br_t h ⟨rfl, J⟩)))
  refine mz_w1 wt hi (by omega) (br_f mz_10 ⟨mz_d16, ?_⟩)
  refine nm_r (e' := nI ((hd + i) % 16)) (by rw [nI_add]; exact mz_r16 (by omega) rfl) ?_
  obtain ⟨_, g0, g1, g2, g3⟩ := q3 i hi
  have l : (hd + i) % 16 < 16 := by omega
  have z1 : ¬ nI i < 0 := nI_pos (by omega)
  have z2 : ¬ nI wt ≤ nI i := nI_ge hi (by omega)
  rw [nI_clamp (n := (hd + i) % 16) (by omega), nI_clamp (n := i) (by omega), g0, g1, g2, g3]
  rcases pk_ix v2 (n := 4) (by omega) with h | h | ⟨j, hj, rfl⟩
  · exact br_t h (br_f z1 (br_f z2 (br_t h ⟨rfl, J⟩)))
  · exact br_f (mz_ge0 h (by omega)) (br_t (mz_gt 3 4 h (by omega) (by omega)) (br_f z1 (br_f z2 (br_f (mz_ge0 h (by omega)) (br_f (mz_gtl 3 4 h (by omega) (by omega)) ⟨rfl, J⟩)))))
  have z3 : ¬ nI j < 0 := nI_pos (by omega)
  have z4 : nI j ≤ nI 3 := nI_le (by omega) (by omega)
  refine br_f z3 (br_f (nI_nlt (a := 3) (by omega) (by omega)) ?_)
  have a1 : vp_in (nI ((hd + i) % 16)) 16 := vp_in_nI l (by omega)
  have a2 : vp_in (nI i) 16 := vp_in_nI (by omega) (by omega)
  have c : j = 0 ∨ j = 1 ∨ j = 2 ∨ j = 3 := by omega
  rcases c with rfl | rfl | rfl | rfl
  · exact br_t rfl ⟨a1, br_f z1 (br_f z2 (br_f z3 (br_t z4 (br_t rfl ⟨a2, rfl, J⟩))))⟩
  · exact br_f (by decide) (br_t rfl ⟨a1, br_f z1 (br_f z2 (br_f z3 (br_t z4 (br_f (by decide) (br_t rfl ⟨a2, rfl, J⟩)))))⟩)
  · exact br_f (by decide) (br_f (by decide) (br_t rfl ⟨a1, br_f z1 (br_f z2 (br_f z3 (br_t z4 (br_f (by decide) (br_f (by decide) (br_t rfl ⟨a2, rfl, J⟩))))))⟩))
  · exact br_f (by decide) (br_f (by decide) (br_f (by decide) (br_t rfl ⟨a1, br_f z1 (br_f z2 (br_f z3 (br_t z4 (br_f (by decide) (br_f (by decide) (br_f (by decide) ⟨a2, rfl, J⟩))))))⟩)))
end
section
/-! reachable, raise -/
section
variable {D E N R hd wt ns : Nat} {lm tg en wr ef pl ac np nd mk pt xo xa xb xc ei ec vq ve fp fe pe la sp si sv yo ya yb yc : Nat → Int32}
theorem mz_mcase (hL : ∀ k, mz_Le8 (lm k)) (hD : D ≤ 4) (a b : Int32) :
    (a < 0 ∨ nI D ≤ a) ∨ (∃ d m : Nat, d < D ∧ a = nI d ∧ m ≤ 8 ∧ lm d = nI m ∧ (b < 0 ∨ nI m ≤ b))
    ∨ (∃ d m e : Nat, d < D ∧ a = nI d ∧ m ≤ 8 ∧ lm d = nI m ∧ e < m ∧ b = nI e) := by
  rcases pk_ix a (n := D) (by omega) with h | h | ⟨d, hd, ha⟩
  · exact Or.inl (Or.inl h)
  · exact Or.inl (Or.inr h)
  obtain ⟨m, hm, e⟩ := hL d
  rcases pk_ix b (n := m) (by omega) with h | h | ⟨j, hj, hb⟩
  · exact Or.inr (Or.inl ⟨d, m, hd, ha, hm, e, Or.inl h⟩)
  · exact Or.inr (Or.inl ⟨d, m, hd, ha, hm, e, Or.inr h⟩)
  · exact Or.inr (Or.inr ⟨d, m, j, hd, ha, hm, e, hj, hb⟩)
theorem mz_mp0 {post : Int32 → Prop} {a b : Int32} (h : a < 0 ∨ nI D ≤ a) (k : post 0) : wpX_mapped post (nI D, nI E, nI N, nI R, nI hd, nI wt, lm, tg, en, wr, ef, pl, ac, np, nd, mk, pt, xo, xa, xb, xc) a b := by
  unfold wpX_mapped
  dsimp only
  exact mz_w0 h (br_t rfl k)
theorem mz_mp2 {post : Int32 → Prop} {d m : Nat} {b : Int32} (hD : D ≤ 4) (h : d < D) (e : lm d = nI m) (hb : b < 0 ∨ nI m ≤ b) (k : post 0) : wpX_mapped post (nI D, nI E, nI N, nI R, nI hd, nI wt, lm, tg, en, wr, ef, pl, ac, np, nd, mk, pt, xo, xa, xb, xc) (nI d) b := by
  unfold wpX_mapped
  dsimp only
  rw [nI_clamp (n := d) (by omega), e]
  exact mz_w1 D h (by omega) (br_f mz_10 ⟨vp_in_nI (by omega) (by omega), mz_w0 hb (br_t rfl k)⟩)
theorem mz_mp1 {post : Int32 → Prop} {d m j : Nat} (hD : D ≤ 4) (h : d < D) (e : lm d = nI m) (hm : m ≤ 8) (hj : j < m) (k : post 1) : wpX_mapped post (nI D, nI E, nI N, nI R, nI hd, nI wt, lm, tg, en, wr, ef, pl, ac, np, nd, mk, pt, xo, xa, xb, xc) (nI d) (nI j) := by
  unfold wpX_mapped
  dsimp only
  rw [nI_clamp (n := d) (by omega), e]
  exact mz_w1 D h (by omega) (br_f mz_10 ⟨vp_in_nI (by omega) (by omega), mz_w1 m hj (by omega) (br_f mz_10 k)⟩)
theorem mz_rcase (hL : ∀ k, mz_Le8 (lm k)) (hE : ∀ k, mz_EnR N (en k) (ei k) (ec k)) (hD : D ≤ 4) (hN : N ≤ 32) (a b : Int32) :
    ((∀ post : Int32 → Prop, post 0 → wpX_reachable post (nI D, nI E, nI N, nI R, nI hd, nI wt, lm, tg, en, wr, ef, pl, ac, np, nd, mk, pt, xo, xa, xb, xc) a b) ∧ (∀ post : Int32 → Prop, post 0 → wpY_reachable post (nI D, nI E, nI N, nI R, nI ns, nI wt, lm, tg, ei, ec, vq, ve, fp, fe, pe, la, ac, sp, si, sv, mk, pt, yo, ya, yb, yc) a b))
    ∨ ∃ d e t q : Nat, d < 4 ∧ e < 8 ∧ a = nI d ∧ b = nI e ∧ t < N ∧ q < 4 ∧ ei (8 * d + e) = nI t ∧ ec (8 * d + e) = nI q ∧ en (8 * d + e) = nI (4 * t + q)
      ∧ (∀ post : Int32 → Prop, post 1 → wpX_reachable post (nI D, nI E, nI N, nI R, nI hd, nI wt, lm, tg, en, wr, ef, pl, ac, np, nd, mk, pt, xo, xa, xb, xc) (nI d) (nI e)) ∧ (∀ post : Int32 → Prop, post 1 → wpY_reachable post (nI D, nI E, nI N, nI R, nI ns, nI wt, lm, tg, ei, ec, vq, ve, fp, fe, pe, la, ac, sp, si, sv, mk, pt, yo, ya, yb, yc) (nI d) (nI e)) := by
  rcases mz_mcase hL hD a b with h | ⟨d, m, h, rfl, hm, e, hb⟩ | ⟨d, m, j, h, rfl, hm, e, hj, rfl⟩
  · refine Or.inl ⟨fun post k => ?_, fun post k => ?_⟩
    · unfold wpX_reachable
      dsimp only
      exact mz_mp0 h (br_t rfl k)
    · unfold wpY_reachable
      dsimp only
      rcases h with h | h
      · exact br_t h k
      · exact br_f (mz_ge0 h (by omega)) (br_f (mz_nlt D h) k)
  · refine Or.inl ⟨fun post k => ?_, fun post k => ?_⟩
    · unfold wpX_reachable
      dsimp only
      exact mz_mp2 hD h e hb (br_t rfl k)
    · unfold wpY_reachable
      dsimp only
      rw [nI_clamp (n := d) (by omega), e]
      refine br_f (nI_pos (by omega)) (br_t (nI_lt h (by omega)) ?_)
      rcases hb with hb | hb
      · exact br_t hb k
      · exact br_f (mz_ge0 hb (by omega)) ⟨vp_in_nI (by omega) (by omega), br_t hb k⟩
  · have X1 : ∀ post : Int32 → Prop, ((en (8 * d + j) = -1 → post 0) ∧ (¬ en (8 * d + j) = -1 → post 1)) → wpX_reachable post (nI D, nI E, nI N, nI R, nI hd, nI wt, lm, tg, en, wr, ef, pl, ac, np, nd, mk, pt, xo, xa, xb, xc) (nI d) (nI j) := by
      intro post k
      unfold wpX_reachable
      dsimp only
      rw [mz_a8, nI_clamp (n := 8 * d + j) (by omega)]
      exact mz_mp1 hD h e hm hj (br_f mz_10 ⟨vp_in_nI (by omega) (by omega), k⟩)
    have Y1 : ∀ post : Int32 → Prop, ((ei (8 * d + j) = -1 → post 0) ∧ (¬ ei (8 * d + j) = -1 → post 1)) → wpY_reachable post (nI D, nI E, nI N, nI R, nI ns, nI wt, lm, tg, ei, ec, vq, ve, fp, fe, pe, la, ac, sp, si, sv, mk, pt, yo, ya, yb, yc) (nI d) (nI j) := by
      intro post k
      unfold wpY_reachable
      dsimp only
      rw [mz_a8, nI_clamp (n := 8 * d + j) (by omega), nI_clamp (n := d) (by omega), e]
      exact br_f (nI_pos (by omega)) (br_t (nI_lt h (by omega)) (br_f (nI_pos (by omega)) ⟨vp_in_nI (by omega) (by omega), br_f (nI_ge hj (by omega)) ⟨vp_in_nI (by omega) (by omega), k⟩⟩))
    obtain ⟨q, hq, h3, ⟨h1, h2⟩ | ⟨t, ht, h2, h1⟩⟩ := hE (8 * d + j)
    · exact Or.inl ⟨fun post k => X1 post (br_t h1 k), fun post k => Y1 post (br_t h2 k)⟩
    · refine Or.inr ⟨d, j, t, q, by omega, by omega, rfl, rfl, ht, hq, h2, h3, h1, fun post k => X1 post (br_f ?_ k), fun post k => Y1 post (br_f ?_ k)⟩
      · rw [h1]; exact mz_nm1 (by omega)
      · rw [h2]; exact mz_nm1 (by omega)
end
theorem i_vc_raise {k : Nat} {u : SX} {v : SY} (I : i_Rel k u v) (hk : k + 5 ≤ 2564) (v1 : Int32) (v2 : Int32) : wpX_raise (fun r u' => wpY_raise (fun r' v' => r' = r ∧ i_Rel (k + 5) u' v') v v1 v2) u v1 v2 := by
  refine mz_el (P := fun u v => wpX_raise (fun r u' => wpY_raise (fun r' v' => r' = r ∧ i_Rel (k + 5) u' v') v v1 v2) u v1 v2) ?_ I
  intro D E N R hd wt ns lm tg en wr ef pl ac np nd mk pt xo xa xb xc ei ec vq ve fp fe pe la sp si sv yo ya yb yc F
  have J : i_Rel (k + 5) (nI D, nI E, nI N, nI R, nI hd, nI wt, lm, tg, en, wr, ef, pl, ac, np, nd, mk, pt, xo, xa, xb, xc) (nI D, nI E, nI N, nI R, nI ns, nI wt, lm, tg, ei, ec, vq, ve, fp, fe, pe, la, ac, sp, si, sv, mk, pt, yo, ya, yb, yc) := mz_in F
  obtain ⟨⟨d1, d2, e1, e2, n1, n2, r1, r2⟩, ⟨T1, T2, T3, T4, T5⟩, C, A, G, Q⟩ := F
  unfold wpX_raise wpY_raise
  dsimp only
  rcases mz_rcase (D := D) (E := E) (N := N) (R := R) (hd := hd) (wt := wt) (lm := lm) (tg := tg) (en := en) (wr := wr) (ef := ef) (pl := pl) (ac := ac) (np := np) (nd := nd) (mk := mk) (pt := pt) (xo := xo) (xa := xa) (xb := xb) (xc := xc) (ns := ns) (ei := ei) (ec := ec) (vq := vq) (ve := ve) (fp := fp) (fe := fe) (pe := pe) (la := la) (sp := sp) (si := si) (sv := sv) (yo := yo) (ya := ya) (yb := yb) (yc := yc) T1 T3 d2 n2 v1 v2 with ⟨hX, hY⟩ | ⟨d, e, t, q, hd', he, rfl, rfl, ht, hq, h1, h2, h3, hX, hY⟩
  · exact hX _ (br_t rfl (hY _ (br_t rfl ⟨rfl, J⟩)))
  refine hX _ (br_f mz_10 ?_)
  rw [mz_a8, nI_clamp (n := 8 * d + e) (by omega), h2, nI_clamp (n := q) (by omega)]
  refine ⟨vp_in_nI (by omega) (by omega), nm_r h3 ⟨mz_d4, ?_⟩⟩
  rw [mz_r4 (a := 4 * t + q) (t := q) (by omega) (by omega), mz_q4 (a := 4 * t + q) (t := t) (by omega) (by omega), nI_clamp (n := q) (by omega)]
  have aq : vp_in (nI q) 4 := vp_in_nI hq (by omega)
  have a32 : vp_in (nI t) 32 := vp_in_nI (by omega) (by omega)
  have a8 : vp_in (nI (8 * d + e)) 32 := vp_in_nI (by omega) (by omega)
  refine ⟨aq, ?_⟩
  rcases T2 q with g | ⟨p, hp, g⟩
  · refine nm_r g (br_t rfl ?_)
    exact hY _ (br_f mz_10 ⟨a8, nm_r h1 ⟨a8, aq, nm_r g (br_t rfl ⟨rfl, J⟩)⟩⟩)
  · refine nm_r g (br_f (mz_nm1 (by omega)) ⟨mz_d4, nm_e ⟨a32, ?_⟩⟩)
    rw [nI_clamp (n := t) (by omega)]
    rcases T5 t with ⟨b1, b2⟩ | ⟨s, hs, b2, b1⟩
    · have K : i_Rel (k + 5) (nI D, nI E, nI N, nI R, nI hd, nI wt, lm, tg, en, wr, ef, upd pl t (nI p), ac, np, nd, mk, pt, xo, xa, xb, xc) (nI D, nI E, nI N, nI R, nI ns, nI wt, lm, tg, ei, ec, vq, ve, fp, fe, upd pe t (nI p), upd la t 0, ac, sp, si, sv, mk, pt, yo, ya, yb, yc) :=
        mz_in ⟨⟨d1, d2, e1, e2, n1, n2, r1, r2⟩, ⟨T1, T2, T3, T4, mz_up3 T5 (Or.inr ⟨p, hp, rfl, Or.inl ⟨rfl, rfl⟩⟩)⟩, C, A, G, Q⟩
      refine br_t b1 ⟨a32, nm_e ?_⟩
      refine hY _ (br_f mz_10 ⟨a8, nm_r h1 ⟨a8, aq, nm_r g (br_f (mz_nm1 (by omega)) ⟨a32, ?_⟩)⟩⟩)
      rw [nI_clamp (n := t) (by omega)]
      exact br_t b2 ⟨a32, nm_e ⟨a32, nm_r (by rw [mz_nb0]) ⟨rfl, K⟩⟩⟩
    · have c1 : ¬ pl t = -1 := by
        rcases b1 with ⟨b1, _⟩ | ⟨b1, _⟩
        · rw [b1]; exact mz_nm1 (by omega)
        · rw [b1]; exact mz_nm1 (by omega)
      refine br_f c1 ?_
      refine hY _ (br_f mz_10 ⟨a8, nm_r h1 ⟨a8, aq, nm_r g (br_f (mz_nm1 (by omega)) ⟨a32, ?_⟩)⟩⟩)
      rw [nI_clamp (n := t) (by omega)]
      exact br_f (by rw [b2]; exact mz_nm1 (by omega)) ⟨rfl, J⟩
end
section
/-! reload, pendingAt, and the commands' loops -/
section
variable {D E N R hd wt ns : Nat} {lm tg en wr ef pl ac np nd mk pt xo xa xb xc ei ec vq ve fp fe pe la sp si sv yo ya yb yc : Nat → Int32}
theorem mz_xrl {post : SX → Prop} {t : Nat} (h : t < 32) (k : post (nI D, nI E, nI N, nI R, nI hd, nI wt, lm, tg, en, wr, upd ef t (wr t), pl, ac, np, nd, mk, pt, xo, xa, xb, xc)) : wpX_reload post (nI D, nI E, nI N, nI R, nI hd, nI wt, lm, tg, en, wr, ef, pl, ac, np, nd, mk, pt, xo, xa, xb, xc) (nI t) := by
  unfold wpX_reload
  dsimp only
  rw [nI_clamp (n := t) (by omega)]
  exact ⟨vp_in_nI h (by omega), vp_in_nI h (by omega), nm_e k⟩
theorem mz_yrl {post : SY → Prop} {t : Nat} (h : t < 32) (k : post (nI D, nI E, nI N, nI R, nI ns, nI wt, lm, tg, ei, ec, vq, ve, upd fp t (vq t), upd fe t (ve t), pe, la, ac, sp, si, sv, mk, pt, yo, ya, yb, yc)) : wpY_reload post (nI D, nI E, nI N, nI R, nI ns, nI wt, lm, tg, ei, ec, vq, ve, fp, fe, pe, la, ac, sp, si, sv, mk, pt, yo, ya, yb, yc) (nI t) := by
  unfold wpY_reload
  dsimp only
  rw [nI_clamp (n := t) (by omega)]
  exact ⟨vp_in_nI h (by omega), vp_in_nI h (by omega), nm_e ⟨vp_in_nI h (by omega), vp_in_nI h (by omega), nm_e k⟩⟩
theorem mz_pa0 {post : Int32 → Prop} {i : Nat} {x y l : Int32} (hi : i < 32) (T : mz_PlR (pl i) y l) (h : y = -1 ∨ ¬ y = x) (k : post 0) : wpX_pendingAt post (nI D, nI E, nI N, nI R, nI hd, nI wt, lm, tg, en, wr, ef, pl, ac, np, nd, mk, pt, xo, xa, xb, xc) (nI i) x := by
  unfold wpX_pendingAt
  dsimp only
  rw [nI_clamp (n := i) (by omega)]
  have a : vp_in (nI i) 32 := vp_in_nI hi (by omega)
  rcases T with ⟨b1, b2⟩ | ⟨p, hp, b2, ⟨b1, _⟩ | ⟨b1, _⟩⟩
  · exact ⟨a, br_t b1 k⟩
  · have c : ¬ y = x := by
      rcases h with h | h
      · rw [b2] at h; exact absurd h (mz_nm1 (by omega))
      · exact h
    rw [b1, mz_r4 (a := p) (t := p) (by omega) (by omega), ← b2]
    exact ⟨a, br_f (by rw [b2]; exact mz_nm1 (by omega)) ⟨a, mz_d4, br_f c k⟩⟩
  · have c : ¬ y = x := by
      rcases h with h | h
      · rw [b2] at h; exact absurd h (mz_nm1 (by omega))
      · exact h
    rw [b1, mz_r4 (a := 4 + p) (t := p) (by omega) (by omega), ← b2]
    exact ⟨a, br_f (mz_nm1 (by omega)) ⟨a, mz_d4, br_f c k⟩⟩
theorem mz_pa1 {post : Int32 → Prop} {i p : Nat} {y l : Int32} (hi : i < 32) (T : mz_PlR (pl i) y l) (hp : p < 4) (h : y = nI p) (k : post 1) : wpX_pendingAt post (nI D, nI E, nI N, nI R, nI hd, nI wt, lm, tg, en, wr, ef, pl, ac, np, nd, mk, pt, xo, xa, xb, xc) (nI i) (nI p) := by
  unfold wpX_pendingAt
  dsimp only
  rw [nI_clamp (n := i) (by omega)]
  have a : vp_in (nI i) 32 := vp_in_nI hi (by omega)
  rcases T with ⟨b1, b2⟩ | ⟨q, hq, b2, ⟨b1, _⟩ | ⟨b1, _⟩⟩
  · rw [h] at b2; exact absurd b2 (mz_nm1 (by omega))
  · rw [b1, mz_r4 (a := q) (t := q) (by omega) (by omega), ← b2]
    exact ⟨a, br_f (by rw [b2]; exact mz_nm1 (by omega)) ⟨a, mz_d4, br_t h k⟩⟩
  · rw [b1, mz_r4 (a := 4 + q) (t := q) (by omega) (by omega), ← b2]
    exact ⟨a, br_f (mz_nm1 (by omega)) ⟨a, mz_d4, br_t h k⟩⟩
theorem mz_sync (hN : N ≤ 32) (T : ∀ k, mz_PlR (pl k) (pe k) (la k)) {p : Nat} (hp : p < 4) : ∀ d i : Nat, i + d = N → ∃ r : Int32,
    (∀ (post : Int32 → Prop) (n : Nat), d < n → post r → wX_sync_13 post (nI p) (nI D) (nI E) (nI N) (nI R) (nI hd) (nI wt) lm tg en wr ef pl ac np nd mk pt xo xa xb xc n (nI i))
    ∧ (∀ (post : Int32 → SY → Prop) (n : Nat), d < n → post r (nI D, nI E, nI N, nI R, nI ns, nI wt, lm, tg, ei, ec, vq, ve, fp, fe, pe, la, ac, sp, si, sv, mk, pt, yo, ya, yb, yc) → wY_carryOut_356 post (nI p) (nI D) (nI E) (nI N) (nI R) (nI ns) (nI wt) lm tg ei ec vq ve fp fe pe la ac sp si sv mk pt yo ya yb yc n (nI i)) := by
  intro d
  induction d with
  | zero =>
    intro i hi
    refine ⟨1, fun post n hn h => ?_, fun post n hn h => ?_⟩
    · obtain ⟨n, rfl⟩ : ∃ m, n = m + 1 := ⟨n - 1, by omega⟩
      exact br_t (nI_le (by omega) (by omega)) h
    · obtain ⟨n, rfl⟩ : ∃ m, n = m + 1 := ⟨n - 1, by omega⟩
      exact br_t (nI_le (by omega) (by omega)) h
  | succ d ih =>
    intro i hi
    obtain ⟨r, hX, hY⟩ := ih (i + 1) (by omega)
    have a : vp_in (nI i) 32 := vp_in_nI (by omega) (by omega)
    have g : ¬ nI N ≤ nI i := nI_ge (by omega) (by omega)
    have z : (nI i).toNatClampNeg = i := nI_clamp (by omega)
    have X0 : ¬ pl i = nI p → ∀ (post : Int32 → Prop) (n : Nat), d + 1 < n → post r → wX_sync_13 post (nI p) (nI D) (nI E) (nI N) (nI R) (nI hd) (nI wt) lm tg en wr ef pl ac np nd mk pt xo xa xb xc n (nI i) := by
      intro c post n hn h
      obtain ⟨n, rfl⟩ : ∃ m, n = m + 1 := ⟨n - 1, by omega⟩
      exact br_f g ⟨a, br_f (by rw [z]; exact c) (nm_r (nI_1 i) (hX post n (by omega) h))⟩
    have Y0 : ¬ pe i = nI p → ∀ (post : Int32 → SY → Prop) (n : Nat), d + 1 < n → post r (nI D, nI E, nI N, nI R, nI ns, nI wt, lm, tg, ei, ec, vq, ve, fp, fe, pe, la, ac, sp, si, sv, mk, pt, yo, ya, yb, yc) → wY_carryOut_356 post (nI p) (nI D) (nI E) (nI N) (nI R) (nI ns) (nI wt) lm tg ei ec vq ve fp fe pe la ac sp si sv mk pt yo ya yb yc n (nI i) := by
      intro c post n hn h
      obtain ⟨n, rfl⟩ : ∃ m, n = m + 1 := ⟨n - 1, by omega⟩
      exact br_f g ⟨a, br_f (by rw [z]; exact c) (nm_r (nI_1 i) (hY post n (by omega) h))⟩
    rcases T i with ⟨b1, b2⟩ | ⟨q, hq, b2, ⟨b1, b3⟩ | ⟨b1, b3⟩⟩
    · exact ⟨r, X0 (by rw [b1]; exact mz_m1n (by omega)), Y0 (by rw [b2]; exact mz_m1n (by omega))⟩
    · by_cases e : q = p
      · subst e
        refine ⟨3, fun post n hn h => ?_, fun post n hn h => ?_⟩
        · obtain ⟨n, rfl⟩ : ∃ m, n = m + 1 := ⟨n - 1, by omega⟩
          exact br_f g ⟨a, br_t (by rw [z]; exact b1) h⟩
        · obtain ⟨n, rfl⟩ : ∃ m, n = m + 1 := ⟨n - 1, by omega⟩
          exact br_f g ⟨a, br_t (by rw [z]; exact b2) ⟨a, br_t (by rw [z]; exact b3) h⟩⟩
      · exact ⟨r, X0 (by rw [b1]; exact mz_ne (by omega) (by omega) e), Y0 (by rw [b2]; exact mz_ne (by omega) (by omega) e)⟩
    · refine ⟨r, X0 (by rw [b1]; exact mz_ne (by omega) (by omega) (by omega)), ?_⟩
      by_cases e : q = p
      · subst e
        intro post n hn h
        obtain ⟨n, rfl⟩ : ∃ m, n = m + 1 := ⟨n - 1, by omega⟩
        exact br_f g ⟨a, br_t (by rw [z]; exact b2) ⟨a, br_f (by rw [z, b3]; exact mz_10) (nm_r (nI_1 i) (hY post n (by omega) h))⟩⟩
      · exact Y0 (by rw [b2]; exact mz_ne (by omega) (by omega) e)
theorem mz_inva (hN : N ≤ 32) (T3 : ∀ k, mz_EnR N (en k) (ei k) (ec k)) (C : ∀ k, mz_CfR (wr k) (vq k) (ve k)) {c : Nat} (hc : c < 4) : ∀ d i : Nat, i + d = 32 → ∀ ef fp fe : Nat → Int32, (∀ k, mz_CfR (ef k) (fp k) (fe k)) → ∃ ef' fp' fe' : Nat → Int32, (∀ k, mz_CfR (ef' k) (fp' k) (fe' k))
    ∧ (∀ (post : Int32 → SX → Prop) (n : Nat), d < n → post 1 (nI D, nI E, nI N, nI R, nI hd, nI wt, lm, tg, en, wr, ef', pl, ac, np, nd, mk, pt, xo, xa, xb, xc) → wX_invalidateAll_13 post (nI c) n (nI i) (nI D) (nI E) (nI N) (nI R) (nI hd) (nI wt) lm tg en wr ef pl ac np nd mk pt xo xa xb xc)
    ∧ (∀ (post : Int32 → SY → Prop) (n : Nat), d < n → post 1 (nI D, nI E, nI N, nI R, nI ns, nI wt, lm, tg, ei, ec, vq, ve, fp', fe', pe, la, ac, sp, si, sv, mk, pt, yo, ya, yb, yc) → wY_carryOut_304 post (nI c) n (nI i) (nI D) (nI E) (nI N) (nI R) (nI ns) (nI wt) lm tg ei ec vq ve fp fe pe la ac sp si sv mk pt yo ya yb yc) := by
  intro d
  induction d with
  | zero =>
    intro i hi ef fp fe T4
    refine ⟨ef, fp, fe, T4, fun post n hn h => ?_, fun post n hn h => ?_⟩
    · obtain ⟨n, rfl⟩ : ∃ m, n = m + 1 := ⟨n - 1, by omega⟩
      exact br_t (nI_le (a := 32) (by omega) (by omega)) h
    · obtain ⟨n, rfl⟩ : ∃ m, n = m + 1 := ⟨n - 1, by omega⟩
      exact br_t (nI_le (a := 32) (by omega) (by omega)) h
  | succ d ih =>
    intro i hi ef fp fe T4
    have a : vp_in (nI i) 32 := vp_in_nI (by omega) (by omega)
    have g : ¬ nI 32 ≤ nI i := nI_ge (by omega) (by omega)
    have z : (nI i).toNatClampNeg = i := nI_clamp (by omega)
    obtain ⟨q, hq, h3, ⟨h1, h2⟩ | ⟨t, ht, h2, h1⟩⟩ := T3 i
    · obtain ⟨ef', fp', fe', T', hX, hY⟩ := ih (i + 1) (by omega) ef fp fe T4
      refine ⟨ef', fp', fe', T', fun post n hn h => ?_, fun post n hn h => ?_⟩
      · obtain ⟨n, rfl⟩ : ∃ m, n = m + 1 := ⟨n - 1, by omega⟩
        exact br_f g ⟨a, nm_r (by rw [z, h1]) (br_t rfl (nm_r (nI_1 i) (hX post n (by omega) h)))⟩
      · obtain ⟨n, rfl⟩ : ∃ m, n = m + 1 := ⟨n - 1, by omega⟩
        exact br_f g ⟨a, br_t (by rw [z]; exact h2) (nm_r (nI_1 i) (hY post n (by omega) h))⟩
    · by_cases e : q = c
      · subst e
        obtain ⟨ef', fp', fe', T', hX, hY⟩ := ih (i + 1) (by omega) (upd ef t (wr t)) (upd fp t (vq t)) (upd fe t (ve t)) (mz_up3 T4 (C t))
        refine ⟨ef', fp', fe', T', fun post n hn h => ?_, fun post n hn h => ?_⟩
        · obtain ⟨n, rfl⟩ : ∃ m, n = m + 1 := ⟨n - 1, by omega⟩
          refine br_f g ⟨a, nm_r (e' := nI (4 * t + q)) (by rw [z, h1]) (br_f (mz_nm1 (by omega)) ⟨mz_d4, ?_⟩)⟩
          rw [mz_r4 (a := 4 * t + q) (t := q) (by omega) (by omega), mz_q4 (a := 4 * t + q) (t := t) (by omega) (by omega)]
          exact br_t rfl ⟨mz_d4, mz_xrl (by omega) (nm_r (nI_1 i) (hX post n (by omega) h))⟩
        · obtain ⟨n, rfl⟩ : ∃ m, n = m + 1 := ⟨n - 1, by omega⟩
          refine br_f g ⟨a, br_f (by rw [z, h2]; exact mz_nm1 (by omega)) ⟨a, br_t (by rw [z]; exact h3) ⟨a, ?_⟩⟩⟩
          rw [z, h2]
          exact mz_yrl (by omega) (nm_r (nI_1 i) (hY post n (by omega) h))
      · obtain ⟨ef', fp', fe', T', hX, hY⟩ := ih (i + 1) (by omega) ef fp fe T4
        refine ⟨ef', fp', fe', T', fun post n hn h => ?_, fun post n hn h => ?_⟩
        · obtain ⟨n, rfl⟩ : ∃ m, n = m + 1 := ⟨n - 1, by omega⟩
          refine br_f g ⟨a, nm_r (e' := nI (4 * t + q)) (by rw [z, h1]) (br_f (mz_nm1 (by omega)) ⟨mz_d4, ?_⟩)⟩
          rw [mz_r4 (a := 4 * t + q) (t := q) (by omega) (by omega)]
          exact br_f (mz_ne (by omega) (by omega) e) (nm_r (nI_1 i) (hX post n (by omega) h))
        · obtain ⟨n, rfl⟩ : ∃ m, n = m + 1 := ⟨n - 1, by omega⟩
          exact br_f g ⟨a, br_f (by rw [z, h2]; exact mz_nm1 (by omega)) ⟨a, br_f (by rw [z, h3]; exact mz_ne (by omega) (by omega) e) (nm_r (nI_1 i) (hY post n (by omega) h))⟩⟩
/-! the first pending one -/
theorem mz_first (f : Nat → Int32) (x : Int32) (M : Nat) : ∀ d i : Nat, i + d = M → (∀ j, i ≤ j → j < M → ¬ f j = x) ∨ ∃ t, i ≤ t ∧ t < M ∧ f t = x ∧ ∀ j, i ≤ j → j < t → ¬ f j = x := by
  intro d
  induction d with
  | zero => intro i hi; exact Or.inl (fun j h1 h2 => absurd h2 (by omega))
  | succ d ih =>
    intro i hi
    by_cases e : f i = x
    · exact Or.inr ⟨i, Nat.le_refl i, by omega, e, fun j h1 h2 => absurd h2 (by omega)⟩
    · rcases ih (i + 1) (by omega) with h | ⟨t, h1, h2, h3, h4⟩
      · refine Or.inl (fun j h1 h2 => ?_)
        by_cases c : j = i
        · rw [c]; exact e
        · exact h j (by omega) h2
      · refine Or.inr ⟨t, by omega, h2, h3, fun j h5 h6 => ?_⟩
        by_cases c : j = i
        · rw [c]; exact e
        · exact h4 j (by omega) h6
theorem mz_fp0 (hN : N ≤ 32) (T : ∀ k, mz_PlR (pl k) (pe k) (la k)) {p : Nat} {post : Int32 → Prop} (h : post (-1)) : ∀ d i n : Nat, i + d = N → d < n → (∀ j, i ≤ j → j < N → ¬ pe j = nI p) → wX_firstPendingAt_2 post (nI p) (nI D) (nI E) (nI N) (nI R) (nI hd) (nI wt) lm tg en wr ef pl ac np nd mk pt xo xa xb xc n (nI i) := by
  intro d
  induction d with
  | zero =>
    intro i n hi hn _
    obtain ⟨n, rfl⟩ : ∃ m, n = m + 1 := ⟨n - 1, by omega⟩
    exact br_t (nI_le (by omega) (by omega)) h
  | succ d ih =>
    intro i n hi hn H
    obtain ⟨n, rfl⟩ : ∃ m, n = m + 1 := ⟨n - 1, by omega⟩
    refine br_f (nI_ge (by omega) (by omega)) (mz_pa0 (by omega) (T i) (Or.inr (H i (Nat.le_refl i) (by omega))) (br_t rfl (nm_r (nI_1 i) ?_)))
    exact ih (i + 1) n (by omega) (by omega) (fun j h1 h2 => H j (by omega) h2)
theorem mz_fp1 (hN : N ≤ 32) (T : ∀ k, mz_PlR (pl k) (pe k) (la k)) {p t : Nat} (hp : p < 4) (ht : t < N) (et : pe t = nI p) {post : Int32 → Prop} (h : post (nI t)) : ∀ d i n : Nat, i + d = t → d < n → (∀ j, i ≤ j → j < t → ¬ pe j = nI p) → wX_firstPendingAt_2 post (nI p) (nI D) (nI E) (nI N) (nI R) (nI hd) (nI wt) lm tg en wr ef pl ac np nd mk pt xo xa xb xc n (nI i) := by
  intro d
  induction d with
  | zero =>
    intro i n hi hn _
    obtain ⟨n, rfl⟩ : ∃ m, n = m + 1 := ⟨n - 1, by omega⟩
    obtain rfl : i = t := by omega
    exact br_f (nI_ge (by omega) (by omega)) (mz_pa1 (by omega) (T i) hp et (br_f mz_10 h))
  | succ d ih =>
    intro i n hi hn H
    obtain ⟨n, rfl⟩ : ∃ m, n = m + 1 := ⟨n - 1, by omega⟩
    refine br_f (nI_ge (by omega) (by omega)) (mz_pa0 (by omega) (T i) (Or.inr (H i (Nat.le_refl i) (by omega))) (br_t rfl (nm_r (nI_1 i) ?_)))
    exact ih (i + 1) n (by omega) (by omega) (fun j h1 h2 => H j (by omega) h2)
/-- a cell of the reference's pass that isn't pending at p -/
theorem mz_yms (hN : N ≤ 32) {p q i n : Nat} {m : Int32} {post : Int32 → SY → Prop} (hi : i < N) (H : ¬ pe i = nI p) (k : wY_carryOut_229 post (nI p) (nI q) (nI D) (nI E) (nI N) (nI R) (nI ns) (nI wt) n m (nI (i + 1)) lm tg ei ec vq ve fp fe pe la ac sp si sv mk pt yo ya yb yc) : wY_carryOut_229 post (nI p) (nI q) (nI D) (nI E) (nI N) (nI R) (nI ns) (nI wt) (n + 1) m (nI i) lm tg ei ec vq ve fp fe pe la ac sp si sv mk pt yo ya yb yc := by
  have a : vp_in (nI i) 32 := vp_in_nI (by omega) (by omega)
  have z : (nI i).toNatClampNeg = i := nI_clamp (by omega)
  refine br_f (nI_ge hi (by omega)) ⟨a, br_f (by rw [z]; exact H) ?_⟩
  unfold wY_carryOut_256
  exact ⟨a, br_f (by rw [z]; exact H) (nm_r (nI_1 i) k)⟩
theorem mz_ym0 (hN : N ≤ 32) {p q : Nat} {m : Int32} {post : Int32 → SY → Prop} (h : post 1 (nI D, nI E, nI N, nI R, nI ns, nI wt, lm, tg, ei, ec, vq, ve, fp, fe, pe, la, ac, sp, si, sv, mk, pt, yo, ya, yb, yc)) : ∀ d i n : Nat, i + d = N → d < n → (∀ j, i ≤ j → j < N → ¬ pe j = nI p) → wY_carryOut_229 post (nI p) (nI q) (nI D) (nI E) (nI N) (nI R) (nI ns) (nI wt) n m (nI i) lm tg ei ec vq ve fp fe pe la ac sp si sv mk pt yo ya yb yc := by
  intro d
  induction d with
  | zero =>
    intro i n hi hn _
    obtain ⟨n, rfl⟩ : ∃ m, n = m + 1 := ⟨n - 1, by omega⟩
    exact br_t (nI_le (by omega) (by omega)) h
  | succ d ih =>
    intro i n hi hn H
    obtain ⟨n, rfl⟩ : ∃ m, n = m + 1 := ⟨n - 1, by omega⟩
    exact mz_yms hN (by omega) (H i (Nat.le_refl i) (by omega)) (ih (i + 1) n (by omega) (by omega) (fun j h1 h2 => H j (by omega) h2))
theorem mz_ym1 (hN : N ≤ 32) {p q t : Nat} (ht : t < N) (et : pe t = nI p) {post : Int32 → SY → Prop} (h : post 3 (nI D, nI E, nI N, nI R, nI ns, nI wt, lm, tg, ei, ec, vq, ve, fp, fe, pe, la, ac, sp, si, sv, mk, pt, yo, ya, yb, yc)) : ∀ d i n : Nat, i + d = t → d < n → (∀ j, i ≤ j → j < t → ¬ pe j = nI p) → wY_carryOut_229 post (nI p) (nI q) (nI D) (nI E) (nI N) (nI R) (nI ns) (nI wt) n 1 (nI i) lm tg ei ec vq ve fp fe pe la ac sp si sv mk pt yo ya yb yc := by
  intro d
  induction d with
  | zero =>
    intro i n hi hn _
    obtain ⟨n, rfl⟩ : ∃ m, n = m + 1 := ⟨n - 1, by omega⟩
    obtain rfl : i = t := by omega
    have z : (nI i).toNatClampNeg = i := nI_clamp (by omega)
    exact br_f (nI_ge ht (by omega)) ⟨vp_in_nI (by omega) (by omega), br_t (by rw [z]; exact et) (br_f mz_10 h)⟩
  | succ d ih =>
    intro i n hi hn H
    obtain ⟨n, rfl⟩ : ∃ m, n = m + 1 := ⟨n - 1, by omega⟩
    exact mz_yms hN (by omega) (H i (Nat.le_refl i) (by omega)) (ih (i + 1) n (by omega) (by omega) (fun j h1 h2 => H j (by omega) h2))
theorem mz_ym2 (hN : N ≤ 32) {p q t : Nat} (ht : t < N) (et : pe t = nI p) {post : Int32 → SY → Prop} (h : ∀ n : Nat, N - (t + 1) < n → wY_carryOut_229 post (nI p) (nI q) (nI D) (nI E) (nI N) (nI R) (nI ns) (nI wt) n 1 (nI (t + 1)) lm tg ei ec vq ve fp fe (upd pe t (nI q)) (upd la t 0) ac sp si sv mk pt yo ya yb yc) : ∀ d i n : Nat, i + d = t → N - i < n → (∀ j, i ≤ j → j < t → ¬ pe j = nI p) → wY_carryOut_229 post (nI p) (nI q) (nI D) (nI E) (nI N) (nI R) (nI ns) (nI wt) n 0 (nI i) lm tg ei ec vq ve fp fe pe la ac sp si sv mk pt yo ya yb yc := by
  intro d
  induction d with
  | zero =>
    intro i n hi hn _
    obtain ⟨n, rfl⟩ : ∃ m, n = m + 1 := ⟨n - 1, by omega⟩
    obtain rfl : i = t := by omega
    have z : (nI i).toNatClampNeg = i := nI_clamp (by omega)
    refine br_f (nI_ge ht (by omega)) ⟨vp_in_nI (by omega) (by omega), br_t (by rw [z]; exact et) (br_t rfl ?_)⟩
    unfold wY_carryOut_256
    exact ⟨vp_in_nI (by omega) (by omega), br_t (by rw [z]; exact et) (mz_st i rfl (by omega) rfl (mz_st i rfl (by omega) mz_nb0 (nm_r (nI_1 i) (h n (by omega)))))⟩
  | succ d ih =>
    intro i n hi hn H
    obtain ⟨n, rfl⟩ : ∃ m, n = m + 1 := ⟨n - 1, by omega⟩
    exact mz_yms hN (by omega) (H i (Nat.le_refl i) (by omega)) (ih (i + 1) n (by omega) (by omega) (fun j h1 h2 => H j (by omega) h2))
end
end
section
/-! the commands, each as one outcome for both sides -/
def mz_Ex (D E N R hd wt ns : Nat) (wr ac np nd mk pt xo xa xb xc vq ve sp si sv yo ya yb yc : Nat → Int32) (A : (Int32 → SX → Prop) → Prop) (B : (Int32 → SY → Prop) → Prop) : Prop :=
  ∃ (r : Int32) (lm tg en ef pl ei ec fp fe pe la : Nat → Int32), mz_Tab N lm tg en ef pl ei ec fp fe pe la ∧ (∀ post : Int32 → SX → Prop, post r (nI D, nI E, nI N, nI R, nI hd, nI wt, lm, tg, en, wr, ef, pl, ac, np, nd, mk, pt, xo, xa, xb, xc) → A post) ∧ (∀ post : Int32 → SY → Prop, post r (nI D, nI E, nI N, nI R, nI ns, nI wt, lm, tg, ei, ec, vq, ve, fp, fe, pe, la, ac, sp, si, sv, mk, pt, yo, ya, yb, yc) → B post)
theorem mz_optof {b : Int32} (h1 : ¬ b < -1) (h2 : b ≤ 3) : mz_Opt b := by
  by_cases h : b < 0
  · refine Or.inl (Int32.toInt_inj.mp ?_)
    rw [Int32.lt_iff_toInt_lt, show (-1 : Int32).toInt = -1 from by decide] at h1
    rw [Int32.lt_iff_toInt_lt, show (0 : Int32).toInt = 0 from by decide] at h
    rw [show (-1 : Int32).toInt = -1 from by decide]
    omega
  · obtain ⟨j, hj, rfl⟩ := nI_of h
    have h3 : nI j ≤ nI 3 := h2
    rw [nI_leI hj (by omega)] at h3
    exact Or.inr ⟨j, by omega, rfl⟩
section
variable {D E N R hd wt ns : Nat} {lm tg en wr ef pl ac np nd mk pt xo xa xb xc ei ec vq ve fp fe pe la sp si sv yo ya yb yc : Nat → Int32}
theorem mz_exi {A : (Int32 → SX → Prop) → Prop} {B : (Int32 → SY → Prop) → Prop} (r : Int32) (T : mz_Tab N lm tg en ef pl ei ec fp fe pe la) (hX : ∀ post : Int32 → SX → Prop, post r (nI D, nI E, nI N, nI R, nI hd, nI wt, lm, tg, en, wr, ef, pl, ac, np, nd, mk, pt, xo, xa, xb, xc) → A post) (hY : ∀ post : Int32 → SY → Prop, post r (nI D, nI E, nI N, nI R, nI ns, nI wt, lm, tg, ei, ec, vq, ve, fp, fe, pe, la, ac, sp, si, sv, mk, pt, yo, ya, yb, yc) → B post) : mz_Ex D E N R hd wt ns wr ac np nd mk pt xo xa xb xc vq ve sp si sv yo ya yb yc A B :=
  ⟨r, lm, tg, en, ef, pl, ei, ec, fp, fe, pe, la, T, hX, hY⟩
theorem mz_cDev (S : mz_Siz D E N R) (T : mz_Tab N lm tg en ef pl ei ec fp fe pe la) (a b c : Int32) : mz_Ex D E N R hd wt ns wr ac np nd mk pt xo xa xb xc vq ve sp si sv yo ya yb yc (fun post => wpX_mapDevice post (nI D, nI E, nI N, nI R, nI hd, nI wt, lm, tg, en, wr, ef, pl, ac, np, nd, mk, pt, xo, xa, xb, xc) a b) (fun post => wpY_carryOut post (nI D, nI E, nI N, nI R, nI ns, nI wt, lm, tg, ei, ec, vq, ve, fp, fe, pe, la, ac, sp, si, sv, mk, pt, yo, ya, yb, yc) 0 a b c) := by
  obtain ⟨d1, d2, e1, e2, n1, n2, r1, r2⟩ := S
  rcases pk_ix a (n := D) (by omega) with h | h | ⟨d, hd', rfl⟩
  · refine mz_exi 2 T (fun post k => ?_) (fun post k => ?_)
    · unfold wpX_mapDevice
      dsimp only
      exact mz_w0 (Or.inl h) (br_t rfl k)
    · unfold wpY_carryOut
      dsimp only
      exact br_t rfl (br_t h k)
  · refine mz_exi 2 T (fun post k => ?_) (fun post k => ?_)
    · unfold wpX_mapDevice
      dsimp only
      exact mz_w0 (Or.inr h) (br_t rfl k)
    · unfold wpY_carryOut
      dsimp only
      exact br_t rfl (br_f (mz_ge0 h (by omega)) (br_t h k))
  rcases pk_ix b (n := E + 1) (by omega) with h | h | ⟨m, hm, rfl⟩
  · refine mz_exi 2 T (fun post k => ?_) (fun post k => ?_)
    · unfold wpX_mapDevice
      dsimp only
      exact mz_w1 D hd' (by omega) (br_f mz_10 (mz_w0 (Or.inl h) (br_t rfl k)))
    · unfold wpY_carryOut
      dsimp only
      exact br_t rfl (br_f (nI_pos (by omega)) (br_f (nI_ge hd' (by omega)) (br_t h k)))
  · refine mz_exi 2 T (fun post k => ?_) (fun post k => ?_)
    · unfold wpX_mapDevice
      dsimp only
      exact mz_w1 D hd' (by omega) (br_f mz_10 (mz_w0 (Or.inr (by rw [nI_1]; exact h)) (br_t rfl k)))
    · unfold wpY_carryOut
      dsimp only
      exact br_t rfl (br_f (nI_pos (by omega)) (br_f (nI_ge hd' (by omega)) (br_f (mz_ge0 h (by omega)) (br_f (mz_gtl E (E + 1) h (by omega) (by omega)) k))))
  · obtain ⟨T1, T2, T3, T4, T5⟩ := T
    refine mz_exi (lm := upd lm d (nI m)) 1 ⟨mz_up1 T1 ⟨m, by omega, rfl⟩, T2, T3, T4, T5⟩ (fun post k => ?_) (fun post k => ?_)
    · unfold wpX_mapDevice
      dsimp only
      rw [nI_1 E]
      exact mz_w1 D hd' (by omega) (br_f mz_10 (mz_w1 (E + 1) hm (by omega) (br_f mz_10 (mz_st d rfl (by omega) rfl k))))
    · unfold wpY_carryOut
      dsimp only
      exact br_t rfl (br_f (nI_pos (by omega)) (br_f (nI_ge hd' (by omega)) (br_f (nI_pos (by omega)) (br_t (nI_le (by omega) (by omega)) (mz_st d rfl (by omega) rfl k)))))
theorem mz_cCol (S : mz_Siz D E N R) (T : mz_Tab N lm tg en ef pl ei ec fp fe pe la) (a b c : Int32) : mz_Ex D E N R hd wt ns wr ac np nd mk pt xo xa xb xc vq ve sp si sv yo ya yb yc (fun post => wpX_mapCollection post (nI D, nI E, nI N, nI R, nI hd, nI wt, lm, tg, en, wr, ef, pl, ac, np, nd, mk, pt, xo, xa, xb, xc) a b) (fun post => wpY_carryOut post (nI D, nI E, nI N, nI R, nI ns, nI wt, lm, tg, ei, ec, vq, ve, fp, fe, pe, la, ac, sp, si, sv, mk, pt, yo, ya, yb, yc) 1 a b c) := by
  obtain ⟨d1, d2, e1, e2, n1, n2, r1, r2⟩ := S
  rcases pk_ix a (n := 4) (by omega) with h | h | ⟨d, hd', rfl⟩
  · refine mz_exi 2 T (fun post k => ?_) (fun post k => ?_)
    · unfold wpX_mapCollection
      dsimp only
      exact mz_w0 (Or.inl h) (br_t rfl k)
    · unfold wpY_carryOut
      dsimp only
      exact br_f (by decide) (br_f (by decide) (br_f (by decide) (br_f (by decide) (br_f (by decide) (br_f (by decide) (br_t h k))))))
  · refine mz_exi 2 T (fun post k => ?_) (fun post k => ?_)
    · unfold wpX_mapCollection
      dsimp only
      exact mz_w0 (Or.inr h) (br_t rfl k)
    · unfold wpY_carryOut
      dsimp only
      exact br_f (by decide) (br_f (by decide) (br_f (by decide) (br_f (by decide) (br_f (by decide) (br_f (by decide) (br_f (mz_ge0 h (by omega)) (br_f (mz_gtl 3 4 h (by omega) (by omega)) k)))))))
  have Y1 : ∀ post : Int32 → SY → Prop, ((b < -1 → post 2 (nI D, nI E, nI N, nI R, nI ns, nI wt, lm, tg, ei, ec, vq, ve, fp, fe, pe, la, ac, sp, si, sv, mk, pt, yo, ya, yb, yc)) ∧ (¬ b < -1 → ((b ≤ 3 → (vp_in (nI d) 4 ∧ ∀ z : Nat → Int32, z = upd tg (nI d).toNatClampNeg b → post 1 (nI D, nI E, nI N, nI R, nI ns, nI wt, lm, z, ei, ec, vq, ve, fp, fe, pe, la, ac, sp, si, sv, mk, pt, yo, ya, yb, yc))) ∧ (¬ b ≤ 3 → post 2 (nI D, nI E, nI N, nI R, nI ns, nI wt, lm, tg, ei, ec, vq, ve, fp, fe, pe, la, ac, sp, si, sv, mk, pt, yo, ya, yb, yc))))) → wpY_carryOut post (nI D, nI E, nI N, nI R, nI ns, nI wt, lm, tg, ei, ec, vq, ve, fp, fe, pe, la, ac, sp, si, sv, mk, pt, yo, ya, yb, yc) 1 (nI d) b c := by
    intro post k
    unfold wpY_carryOut
    dsimp only
    exact br_f (by decide) (br_f (by decide) (br_f (by decide) (br_f (by decide) (br_f (by decide) (br_f (by decide) (br_f (nI_pos (by omega)) (br_t (nI_le (b := 3) (by omega) (by omega)) (br_t rfl k))))))))
  by_cases h1 : b < -1
  · refine mz_exi 2 T (fun post k => ?_) (fun post k => Y1 post (br_t h1 k))
    unfold wpX_mapCollection
    dsimp only
    exact mz_w1 4 hd' (by omega) (br_f mz_10 (br_t h1 k))
  by_cases h2 : b ≤ 3
  · obtain ⟨T1, T2, T3, T4, T5⟩ := T
    refine mz_exi (tg := upd tg d b) 1 ⟨T1, mz_up1 T2 (mz_optof h1 h2), T3, T4, T5⟩ (fun post k => ?_) (fun post k => Y1 post (br_f h1 (br_t h2 (mz_st d rfl hd' rfl k))))
    unfold wpX_mapCollection
    dsimp only
    exact mz_w1 4 hd' (by omega) (br_f mz_10 (br_f h1 (br_t h2 (mz_st d rfl hd' rfl k))))
  · refine mz_exi 2 T (fun post k => ?_) (fun post k => Y1 post (br_f h1 (br_f h2 k)))
    unfold wpX_mapCollection
    dsimp only
    exact mz_w1 4 hd' (by omega) (br_f mz_10 (br_f h1 (br_f h2 k)))
theorem mz_cEvt (S : mz_Siz D E N R) (T : mz_Tab N lm tg en ef pl ei ec fp fe pe la) (C : ∀ k, mz_CfR (wr k) (vq k) (ve k)) (a b c : Int32) : mz_Ex D E N R hd wt ns wr ac np nd mk pt xo xa xb xc vq ve sp si sv yo ya yb yc (fun post => wpX_mapEvent post (nI D, nI E, nI N, nI R, nI hd, nI wt, lm, tg, en, wr, ef, pl, ac, np, nd, mk, pt, xo, xa, xb, xc) a b c) (fun post => wpY_carryOut post (nI D, nI E, nI N, nI R, nI ns, nI wt, lm, tg, ei, ec, vq, ve, fp, fe, pe, la, ac, sp, si, sv, mk, pt, yo, ya, yb, yc) 2 a b c) := by
  obtain ⟨d1, d2, e1, e2, n1, n2, r1, r2⟩ := S
  rcases mz_mcase T.1 d2 a b with h | ⟨d, m, h, rfl, hm, e, hb⟩ | ⟨d, m, j, h, rfl, hm, e, hj, rfl⟩
  · refine mz_exi 2 T (fun post k => ?_) (fun post k => ?_)
    · unfold wpX_mapEvent
      dsimp only
      exact mz_mp0 h (br_t rfl k)
    · unfold wpY_carryOut
      dsimp only
      refine br_f (by decide) (br_t rfl ?_)
      rcases h with h | h
      · exact br_t h k
      · exact br_f (mz_ge0 h (by omega)) (br_f (mz_nlt D h) k)
  · refine mz_exi 2 T (fun post k => ?_) (fun post k => ?_)
    · unfold wpX_mapEvent
      dsimp only
      exact mz_mp2 d2 h e hb (br_t rfl k)
    · unfold wpY_carryOut
      dsimp only
      refine br_f (by decide) (br_t rfl (br_f (nI_pos (by omega)) (br_t (nI_lt h (by omega)) ?_)))
      rw [nI_clamp (n := d) (by omega), e]
      rcases hb with hb | hb
      · exact br_t hb k
      · exact br_f (mz_ge0 hb (by omega)) ⟨vp_in_nI (by omega) (by omega), br_t hb k⟩
  rcases pk_ix c (n := 4 * N) (by omega) with hc | hc | ⟨s, hs, rfl⟩
  · refine mz_exi 2 T (fun post k => ?_) (fun post k => ?_)
    · unfold wpX_mapEvent
      dsimp only
      exact mz_mp1 d2 h e hm hj (br_f mz_10 (mz_w0 (Or.inl hc) (br_t rfl k)))
    · unfold wpY_carryOut
      dsimp only
      refine br_f (by decide) (br_t rfl (br_f (nI_pos (by omega)) (br_t (nI_lt h (by omega)) (br_f (nI_pos (by omega)) ?_))))
      rw [nI_clamp (n := d) (by omega), e]
      exact ⟨vp_in_nI (by omega) (by omega), br_f (nI_ge hj (by omega)) (br_t hc k)⟩
  · refine mz_exi 2 T (fun post k => ?_) (fun post k => ?_)
    · unfold wpX_mapEvent
      dsimp only
      rw [mz_t4]
      exact mz_mp1 d2 h e hm hj (br_f mz_10 (mz_w0 (Or.inr hc) (br_t rfl k)))
    · unfold wpY_carryOut
      dsimp only
      refine br_f (by decide) (br_t rfl (br_f (nI_pos (by omega)) (br_t (nI_lt h (by omega)) (br_f (nI_pos (by omega)) ?_))))
      rw [nI_clamp (n := d) (by omega), e, mz_t4]
      exact ⟨vp_in_nI (by omega) (by omega), br_f (nI_ge hj (by omega)) (br_f (mz_ge0 hc (by omega)) (br_f (mz_nlt (4 * N) hc) k))⟩
  · obtain ⟨T1, T2, T3, T4, T5⟩ := T
    have q1 : nI s / 4 = nI (s / 4) := mz_q4 (by omega) rfl
    have q2 : nI s - nI s / 4 * 4 = nI (s % 4) := mz_r4 (by omega) rfl
    refine mz_exi (en := upd en (8 * d + j) (nI s)) (ei := upd ei (8 * d + j) (nI (s / 4))) (ec := upd ec (8 * d + j) (nI (s % 4))) (ef := upd ef (s / 4) (wr (s / 4))) (fp := upd fp (s / 4) (vq (s / 4))) (fe := upd fe (s / 4) (ve (s / 4))) 1
      ⟨T1, T2, mz_up3 T3 ⟨s % 4, by omega, rfl, Or.inr ⟨s / 4, by omega, rfl, congrArg nI (by omega)⟩⟩, mz_up3 T4 (C (s / 4)), T5⟩ (fun post k => ?_) (fun post k => ?_)
    · unfold wpX_mapEvent
      dsimp only
      rw [mz_t4, q1]
      exact mz_mp1 d2 h e hm hj (br_f mz_10 (mz_w1 (4 * N) hs (by omega) (br_f mz_10 (mz_st (8 * d + j) (mz_a8 d j) (by omega) rfl ⟨mz_d4, mz_xrl (by omega) k⟩))))
    · unfold wpY_carryOut
      dsimp only
      refine br_f (by decide) (br_t rfl (br_f (nI_pos (by omega)) (br_t (nI_lt h (by omega)) (br_f (nI_pos (by omega)) ?_))))
      rw [nI_clamp (n := d) (by omega), e, mz_t4, q2, q1]
      exact ⟨vp_in_nI (by omega) (by omega), br_f (nI_ge hj (by omega)) (br_f (nI_pos (by omega)) (br_t (nI_lt hs (by omega)) ⟨mz_d4, mz_st (8 * d + j) (mz_a8 d j) (by omega) rfl ⟨mz_d4, mz_st (8 * d + j) (mz_a8 d j) (by omega) rfl ⟨mz_d4, mz_yrl (by omega) k⟩⟩⟩))⟩
end
end
section
/-! the commands on an entry -/
section
variable {D E N R hd wt ns : Nat} {lm tg en wr ef pl ac np nd mk pt xo xa xb xc ei ec vq ve fp fe pe la sp si sv yo ya yb yc : Nat → Int32}
theorem mz_cInv (S : mz_Siz D E N R) (T : mz_Tab N lm tg en ef pl ei ec fp fe pe la) (C : ∀ k, mz_CfR (wr k) (vq k) (ve k)) (a b c : Int32) : mz_Ex D E N R hd wt ns wr ac np nd mk pt xo xa xb xc vq ve sp si sv yo ya yb yc (fun post => wpX_invalidate post (nI D, nI E, nI N, nI R, nI hd, nI wt, lm, tg, en, wr, ef, pl, ac, np, nd, mk, pt, xo, xa, xb, xc) a b) (fun post => wpY_onEntry post (nI D, nI E, nI N, nI R, nI ns, nI wt, lm, tg, ei, ec, vq, ve, fp, fe, pe, la, ac, sp, si, sv, mk, pt, yo, ya, yb, yc) 7 a b c) := by
  obtain ⟨d1, d2, e1, e2, n1, n2, r1, r2⟩ := S
  obtain ⟨T1, T2, T3, T4, T5⟩ := T
  rcases mz_rcase (D := D) (E := E) (N := N) (R := R) (hd := hd) (wt := wt) (lm := lm) (tg := tg) (en := en) (wr := wr) (ef := ef) (pl := pl) (ac := ac) (np := np) (nd := nd) (mk := mk) (pt := pt) (xo := xo) (xa := xa) (xb := xb) (xc := xc) (ns := ns) (ei := ei) (ec := ec) (vq := vq) (ve := ve) (fp := fp) (fe := fe) (pe := pe) (la := la) (sp := sp) (si := si) (sv := sv) (yo := yo) (ya := ya) (yb := yb) (yc := yc) T1 T3 d2 n2 a b with ⟨hX, hY⟩ | ⟨d, e, t, q, hd', he, rfl, rfl, ht, hq, h1, h2, h3, hX, hY⟩
  · refine mz_exi 2 ⟨T1, T2, T3, T4, T5⟩ (fun post k => ?_) (fun post k => ?_)
    · unfold wpX_invalidate
      dsimp only
      exact hX _ (br_t rfl k)
    · unfold wpY_onEntry
      dsimp only
      exact hY _ (br_t rfl k)
  have aq : vp_in (nI q) 4 := vp_in_nI hq (by omega)
  have a8 : vp_in (nI (8 * d + e)) 32 := vp_in_nI (by omega) (by omega)
  refine mz_exi (ef := upd ef t (wr t)) (fp := upd fp t (vq t)) (fe := upd fe t (ve t)) 1 ⟨T1, T2, T3, mz_up3 T4 (C t), T5⟩ (fun post k => ?_) (fun post k => ?_)
  · unfold wpX_invalidate
    dsimp only
    refine hX _ (br_f mz_10 ?_)
    rw [mz_a8, nI_clamp (n := 8 * d + e) (by omega), h3, mz_q4 (a := 4 * t + q) (t := t) (by omega) (by omega)]
    exact ⟨a8, mz_d4, mz_xrl (by omega) k⟩
  · unfold wpY_onEntry
    dsimp only
    refine hY _ (br_f mz_10 (nm_r (mz_a8 d e) ?_))
    rw [nI_clamp (n := 8 * d + e) (by omega), h2, nI_clamp (n := q) (by omega)]
    exact ⟨a8, nm_r h1 ⟨a8, aq, nm_e (br_t rfl (mz_yrl (by omega) k))⟩⟩
theorem mz_cMov (S : mz_Siz D E N R) (T : mz_Tab N lm tg en ef pl ei ec fp fe pe la) (a b c : Int32) : mz_Ex D E N R hd wt ns wr ac np nd mk pt xo xa xb xc vq ve sp si sv yo ya yb yc (fun post => wpX_move post (nI D, nI E, nI N, nI R, nI hd, nI wt, lm, tg, en, wr, ef, pl, ac, np, nd, mk, pt, xo, xa, xb, xc) a b c) (fun post => wpY_onEntry post (nI D, nI E, nI N, nI R, nI ns, nI wt, lm, tg, ei, ec, vq, ve, fp, fe, pe, la, ac, sp, si, sv, mk, pt, yo, ya, yb, yc) 3 a b c) := by
  obtain ⟨d1, d2, e1, e2, n1, n2, r1, r2⟩ := S
  obtain ⟨T1, T2, T3, T4, T5⟩ := T
  rcases mz_rcase (D := D) (E := E) (N := N) (R := R) (hd := hd) (wt := wt) (lm := lm) (tg := tg) (en := en) (wr := wr) (ef := ef) (pl := pl) (ac := ac) (np := np) (nd := nd) (mk := mk) (pt := pt) (xo := xo) (xa := xa) (xb := xb) (xc := xc) (ns := ns) (ei := ei) (ec := ec) (vq := vq) (ve := ve) (fp := fp) (fe := fe) (pe := pe) (la := la) (sp := sp) (si := si) (sv := sv) (yo := yo) (ya := ya) (yb := yb) (yc := yc) T1 T3 d2 n2 a b with ⟨hX, hY⟩ | ⟨d, e, t, q, hd', he, rfl, rfl, ht, hq, h1, h2, h3, hX, hY⟩
  · refine mz_exi 2 ⟨T1, T2, T3, T4, T5⟩ (fun post k => ?_) (fun post k => ?_)
    · unfold wpX_move
      dsimp only
      exact hX _ (br_t rfl k)
    · unfold wpY_onEntry
      dsimp only
      exact hY _ (br_t rfl k)
  have aq : vp_in (nI q) 4 := vp_in_nI hq (by omega)
  have a32 : vp_in (nI t) 32 := vp_in_nI (by omega) (by omega)
  have zt : (nI t).toNatClampNeg = t := nI_clamp (by omega)
  have a8 : vp_in (nI (8 * d + e)) 32 := vp_in_nI (by omega) (by omega)
  rcases pk_ix c (n := 4) (by omega) with hc | hc | ⟨m, hm, rfl⟩
  · refine mz_exi 2 ⟨T1, T2, T3, T4, T5⟩ (fun post k => ?_) (fun post k => ?_)
    · unfold wpX_move
      dsimp only
      exact hX _ (br_f mz_10 (mz_w0 (Or.inl hc) (br_t rfl k)))
    · unfold wpY_onEntry
      dsimp only
      refine hY _ (br_f mz_10 (nm_r (mz_a8 d e) ?_))
      rw [nI_clamp (n := 8 * d + e) (by omega), h2, nI_clamp (n := q) (by omega)]
      exact ⟨a8, nm_r h1 ⟨a8, aq, nm_e (br_f (by decide) (br_t rfl (br_t hc k)))⟩⟩
  · refine mz_exi 2 ⟨T1, T2, T3, T4, T5⟩ (fun post k => ?_) (fun post k => ?_)
    · unfold wpX_move
      dsimp only
      exact hX _ (br_f mz_10 (mz_w0 (Or.inr hc) (br_t rfl k)))
    · unfold wpY_onEntry
      dsimp only
      refine hY _ (br_f mz_10 (nm_r (mz_a8 d e) ?_))
      rw [nI_clamp (n := 8 * d + e) (by omega), h2, nI_clamp (n := q) (by omega)]
      exact ⟨a8, nm_r h1 ⟨a8, aq, nm_e (br_f (by decide) (br_t rfl (br_f (mz_ge0 hc (by omega)) (br_f (mz_gtl 3 4 hc (by omega) (by omega)) k))))⟩⟩
  have am : vp_in (nI m) 4 := vp_in_nI hm (by omega)
  rcases T2 m with gm | ⟨p2, hp2, gm⟩
  · refine mz_exi 2 ⟨T1, T2, T3, T4, T5⟩ (fun post k => ?_) (fun post k => ?_)
    · unfold wpX_move
      dsimp only
      rw [nI_clamp (n := m) (by omega)]
      exact hX _ (br_f mz_10 (mz_w1 4 hm (by omega) (br_f mz_10 ⟨am, nm_r gm (br_t rfl k)⟩)))
    · unfold wpY_onEntry
      dsimp only
      refine hY _ (br_f mz_10 (nm_r (mz_a8 d e) ?_))
      rw [nI_clamp (n := 8 * d + e) (by omega), h2, nI_clamp (n := q) (by omega), nI_clamp (n := m) (by omega)]
      exact ⟨a8, nm_r h1 ⟨a8, aq, nm_e (br_f (by decide) (br_t rfl (br_f (nI_pos (by omega)) (br_t (nI_le (b := 3) (by omega) (by omega)) ⟨am, nm_r gm (br_t rfl k)⟩))))⟩⟩
  have T3' : ∀ k, mz_EnR N (upd en (8 * d + e) (nI (4 * t + m)) k) (ei k) (upd ec (8 * d + e) (nI m) k) := mz_up13 T3 ⟨m, hm, rfl, Or.inr ⟨t, ht, h1, rfl⟩⟩
  have X1 : ∀ post : Int32 → SX → Prop, ((tg q = nI p2 → post 1 (nI D, nI E, nI N, nI R, nI hd, nI wt, lm, tg, upd en (8 * d + e) (nI (4 * t + m)), wr, ef, pl, ac, np, nd, mk, pt, xo, xa, xb, xc)) ∧ (¬ tg q = nI p2 → wpX_pendingAt (fun r => (r = 0 → post 1 (nI D, nI E, nI N, nI R, nI hd, nI wt, lm, tg, upd en (8 * d + e) (nI (4 * t + m)), wr, ef, pl, ac, np, nd, mk, pt, xo, xa, xb, xc)) ∧ (¬ r = 0 → (vp_in (nI t) 32 ∧ ∀ z : Nat → Int32, z = upd pl (nI t).toNatClampNeg (nI p2) → post 1 (nI D, nI E, nI N, nI R, nI hd, nI wt, lm, tg, upd en (8 * d + e) (nI (4 * t + m)), wr, ef, z, ac, np, nd, mk, pt, xo, xa, xb, xc)))) (nI D, nI E, nI N, nI R, nI hd, nI wt, lm, tg, upd en (8 * d + e) (nI (4 * t + m)), wr, ef, pl, ac, np, nd, mk, pt, xo, xa, xb, xc) (nI t) (tg q))) → wpX_move post (nI D, nI E, nI N, nI R, nI hd, nI wt, lm, tg, en, wr, ef, pl, ac, np, nd, mk, pt, xo, xa, xb, xc) (nI d) (nI e) (nI m) := by
    intro post k
    unfold wpX_move
    dsimp only
    rw [nI_clamp (n := m) (by omega)]
    refine hX _ (br_f mz_10 (mz_w1 4 hm (by omega) (br_f mz_10 ⟨am, nm_r gm (br_f (mz_nm1 (by omega)) (nm_r (mz_a8 d e) ?_))⟩)))
    rw [nI_clamp (n := 8 * d + e) (by omega), h3, mz_r4 (a := 4 * t + q) (t := q) (by omega) (by omega), mz_q4 (a := 4 * t + q) (t := t) (by omega) (by omega), nI_clamp (n := q) (by omega)]
    exact ⟨a8, mz_d4, nm_e ⟨a8, mz_d4, aq, nm_e ⟨a8, nm_r (by rw [mz_a4]) k⟩⟩⟩
  have Y1 : ∀ post : Int32 → SY → Prop, ((tg q = -1 → post 1 (nI D, nI E, nI N, nI R, nI ns, nI wt, lm, tg, ei, upd ec (8 * d + e) (nI m), vq, ve, fp, fe, pe, la, ac, sp, si, sv, mk, pt, yo, ya, yb, yc)) ∧ (¬ tg q = -1 → ((tg q = nI p2 → post 1 (nI D, nI E, nI N, nI R, nI ns, nI wt, lm, tg, ei, upd ec (8 * d + e) (nI m), vq, ve, fp, fe, pe, la, ac, sp, si, sv, mk, pt, yo, ya, yb, yc)) ∧ (¬ tg q = nI p2 → (vp_in (nI t) 32 ∧ ((pe (nI t).toNatClampNeg = tg q → (vp_in (nI t) 32 ∧ ∀ z : Nat → Int32, z = upd pe (nI t).toNatClampNeg (nI p2) → (vp_in (nI t) 32 ∧ ∀ z' : Nat → Int32, z' = upd la (nI t).toNatClampNeg (vp_nar .boolean 0) → post 1 (nI D, nI E, nI N, nI R, nI ns, nI wt, lm, tg, ei, upd ec (8 * d + e) (nI m), vq, ve, fp, fe, z, z', ac, sp, si, sv, mk, pt, yo, ya, yb, yc)))) ∧ (¬ pe (nI t).toNatClampNeg = tg q → post 1 (nI D, nI E, nI N, nI R, nI ns, nI wt, lm, tg, ei, upd ec (8 * d + e) (nI m), vq, ve, fp, fe, pe, la, ac, sp, si, sv, mk, pt, yo, ya, yb, yc)))))))) → wpY_onEntry post (nI D, nI E, nI N, nI R, nI ns, nI wt, lm, tg, ei, ec, vq, ve, fp, fe, pe, la, ac, sp, si, sv, mk, pt, yo, ya, yb, yc) 3 (nI d) (nI e) (nI m) := by
    intro post k
    unfold wpY_onEntry
    dsimp only
    refine hY _ (br_f mz_10 (nm_r (mz_a8 d e) ?_))
    rw [nI_clamp (n := 8 * d + e) (by omega), h2, nI_clamp (n := q) (by omega), nI_clamp (n := m) (by omega)]
    exact ⟨a8, nm_r h1 ⟨a8, aq, nm_e (br_f (by decide) (br_t rfl (br_f (nI_pos (by omega)) (br_t (nI_le (b := 3) (by omega) (by omega)) ⟨am, nm_r gm (br_f (mz_nm1 (by omega)) ⟨a8, nm_e k⟩)⟩))))⟩⟩
  rcases T2 q with gq | ⟨p1, hp1, gq⟩
  · refine mz_exi (en := upd en (8 * d + e) (nI (4 * t + m))) (ec := upd ec (8 * d + e) (nI m)) 1 ⟨T1, T2, T3', T4, T5⟩ (fun post k => X1 post ?_) (fun post k => Y1 post (br_t gq k))
    refine br_f (by rw [gq]; exact mz_m1n (by omega)) ?_
    rw [gq]
    by_cases z : pe t = -1
    · exact mz_pa0 (by omega) (T5 t) (Or.inl z) (br_t rfl k)
    · exact mz_pa0 (by omega) (T5 t) (Or.inr z) (br_t rfl k)
  have g1 : ¬ tg q = -1 := by rw [gq]; exact mz_nm1 (by omega)
  by_cases e12 : p1 = p2
  · subst e12
    exact mz_exi (en := upd en (8 * d + e) (nI (4 * t + m))) (ec := upd ec (8 * d + e) (nI m)) 1 ⟨T1, T2, T3', T4, T5⟩ (fun post k => X1 post (br_t gq k)) (fun post k => Y1 post (br_f g1 (br_t gq k)))
  have g2 : ¬ tg q = nI p2 := by rw [gq]; exact mz_ne (by omega) (by omega) e12
  by_cases z : pe t = nI p1
  · refine mz_exi (en := upd en (8 * d + e) (nI (4 * t + m))) (ec := upd ec (8 * d + e) (nI m)) (pl := upd pl t (nI p2)) (pe := upd pe t (nI p2)) (la := upd la t 0) 1 ⟨T1, T2, T3', T4, mz_up3 T5 (Or.inr ⟨p2, hp2, rfl, Or.inl ⟨rfl, rfl⟩⟩)⟩ (fun post k => X1 post (br_f g2 ?_)) (fun post k => Y1 post (br_f g1 (br_f g2 ⟨a32, br_t (by rw [zt, gq]; exact z) (mz_st t rfl (by omega) rfl (mz_st t rfl (by omega) mz_nb0 k))⟩)))
    rw [gq]
    exact mz_pa1 (by omega) (T5 t) hp1 z (br_f mz_10 (mz_st t rfl (by omega) rfl k))
  · refine mz_exi (en := upd en (8 * d + e) (nI (4 * t + m))) (ec := upd ec (8 * d + e) (nI m)) 1 ⟨T1, T2, T3', T4, T5⟩ (fun post k => X1 post (br_f g2 ?_)) (fun post k => Y1 post (br_f g1 (br_f g2 ⟨a32, br_f (by rw [zt, gq]; exact z) k⟩)))
    rw [gq]
    exact mz_pa0 (by omega) (T5 t) (Or.inr z) (br_t rfl k)
theorem mz_clt (hN : N ≤ 32) (T5 : ∀ k, mz_PlR (pl k) (pe k) (la k)) {t : Nat} {x : Int32} (ht : t < N) (hx : mz_Opt x) : ∃ (r : Int32) (pl' pe' la' : Nat → Int32), (∀ k, mz_PlR (pl' k) (pe' k) (la' k))
    ∧ (∀ (en : Nat → Int32) (post : Int32 → SX → Prop), post r (nI D, nI E, nI N, nI R, nI hd, nI wt, lm, tg, en, wr, ef, pl', ac, np, nd, mk, pt, xo, xa, xb, xc) → wX_clear_58 post (nI t) x (nI D) (nI E) (nI N) (nI R) (nI hd) (nI wt) lm tg en wr ef pl ac np nd mk pt xo xa xb xc)
    ∧ (∀ (ei : Nat → Int32) (post : Int32 → SY → Prop), post r (nI D, nI E, nI N, nI R, nI ns, nI wt, lm, tg, ei, ec, vq, ve, fp, fe, pe', la', ac, sp, si, sv, mk, pt, yo, ya, yb, yc) → wY_onEntry_157 post (nI t) x (nI D) (nI E) (nI N) (nI R) (nI ns) (nI wt) lm tg ei ec vq ve fp fe pe la ac sp si sv mk pt yo ya yb yc) := by
  have a32 : vp_in (nI t) 32 := vp_in_nI (by omega) (by omega)
  have z : (nI t).toNatClampNeg = t := nI_clamp (by omega)
  rcases hx with rfl | ⟨p, hp, rfl⟩
  · refine ⟨1, pl, pe, la, T5, fun en post k => ?_, fun ei post k => ?_⟩
    · unfold wX_clear_58
      by_cases c : pe t = -1
      · exact mz_pa0 (by omega) (T5 t) (Or.inl c) (br_t rfl k)
      · exact mz_pa0 (by omega) (T5 t) (Or.inr c) (br_t rfl k)
    · unfold wY_onEntry_157
      exact br_t rfl k
  · by_cases c : pe t = nI p
    · refine ⟨100 + nI t, upd pl t (-1), upd pe t (-1), upd la t 0, mz_up3 T5 (Or.inl ⟨rfl, rfl⟩), fun en post k => ?_, fun ei post k => ?_⟩
      · unfold wX_clear_58
        exact mz_pa1 (by omega) (T5 t) hp c (br_f mz_10 (mz_st t rfl (by omega) rfl k))
      · unfold wY_onEntry_157
        exact br_f (mz_nm1 (by omega)) ⟨a32, br_t (by rw [z]; exact c) (mz_st t rfl (by omega) rfl (mz_st t rfl (by omega) mz_nb0 k))⟩
    · refine ⟨1, pl, pe, la, T5, fun en post k => ?_, fun ei post k => ?_⟩
      · unfold wX_clear_58
        exact mz_pa0 (by omega) (T5 t) (Or.inr c) (br_t rfl k)
      · unfold wY_onEntry_157
        exact br_f (mz_nm1 (by omega)) ⟨a32, br_f (by rw [z]; exact c) k⟩
theorem mz_cClr (S : mz_Siz D E N R) (T : mz_Tab N lm tg en ef pl ei ec fp fe pe la) (a b c : Int32) : mz_Ex D E N R hd wt ns wr ac np nd mk pt xo xa xb xc vq ve sp si sv yo ya yb yc (fun post => wpX_clear post (nI D, nI E, nI N, nI R, nI hd, nI wt, lm, tg, en, wr, ef, pl, ac, np, nd, mk, pt, xo, xa, xb, xc) a b 0) (fun post => wpY_onEntry post (nI D, nI E, nI N, nI R, nI ns, nI wt, lm, tg, ei, ec, vq, ve, fp, fe, pe, la, ac, sp, si, sv, mk, pt, yo, ya, yb, yc) 6 a b c) := by
  obtain ⟨d1, d2, e1, e2, n1, n2, r1, r2⟩ := S
  obtain ⟨T1, T2, T3, T4, T5⟩ := T
  rcases mz_rcase (D := D) (E := E) (N := N) (R := R) (hd := hd) (wt := wt) (lm := lm) (tg := tg) (en := en) (wr := wr) (ef := ef) (pl := pl) (ac := ac) (np := np) (nd := nd) (mk := mk) (pt := pt) (xo := xo) (xa := xa) (xb := xb) (xc := xc) (ns := ns) (ei := ei) (ec := ec) (vq := vq) (ve := ve) (fp := fp) (fe := fe) (pe := pe) (la := la) (sp := sp) (si := si) (sv := sv) (yo := yo) (ya := ya) (yb := yb) (yc := yc) T1 T3 d2 n2 a b with ⟨hX, hY⟩ | ⟨d, e, t, q, hd', he, rfl, rfl, ht, hq, h1, h2, h3, hX, hY⟩
  · refine mz_exi 2 ⟨T1, T2, T3, T4, T5⟩ (fun post k => ?_) (fun post k => ?_)
    · unfold wpX_clear
      dsimp only
      exact hX _ (br_t rfl k)
    · unfold wpY_onEntry
      dsimp only
      exact hY _ (br_t rfl k)
  have aq : vp_in (nI q) 4 := vp_in_nI hq (by omega)
  have a8 : vp_in (nI (8 * d + e)) 32 := vp_in_nI (by omega) (by omega)
  obtain ⟨r, pl', pe', la', T5', hX', hY'⟩ := mz_clt (D := D) (E := E) (N := N) (R := R) (hd := hd) (wt := wt) (lm := lm) (tg := tg) (wr := wr) (ef := ef) (ac := ac) (np := np) (nd := nd) (mk := mk) (pt := pt) (xo := xo) (xa := xa) (xb := xb) (xc := xc) (ns := ns) (ec := ec) (vq := vq) (ve := ve) (fp := fp) (fe := fe) (sp := sp) (si := si) (sv := sv) (yo := yo) (ya := ya) (yb := yb) (yc := yc) n2 T5 ht (T2 q)
  refine mz_exi r ⟨T1, T2, T3, T4, T5'⟩ (fun post k => ?_) (fun post k => ?_)
  · unfold wpX_clear
    dsimp only
    refine hX _ (br_f mz_10 (nm_r (mz_a8 d e) ?_))
    rw [nI_clamp (n := 8 * d + e) (by omega), h3, mz_r4 (a := 4 * t + q) (t := q) (by omega) (by omega), mz_q4 (a := 4 * t + q) (t := t) (by omega) (by omega), nI_clamp (n := q) (by omega)]
    exact ⟨a8, mz_d4, nm_e ⟨a8, mz_d4, aq, nm_e (br_t rfl (hX' en post k))⟩⟩
  · unfold wpY_onEntry
    dsimp only
    refine hY _ (br_f mz_10 (nm_r (mz_a8 d e) ?_))
    rw [nI_clamp (n := 8 * d + e) (by omega), h2, nI_clamp (n := q) (by omega)]
    exact ⟨a8, nm_r h1 ⟨a8, aq, nm_e (br_f (by decide) (br_f (by decide) (br_f (by decide) (hY' ei post k))))⟩⟩
theorem mz_cDis (S : mz_Siz D E N R) (T : mz_Tab N lm tg en ef pl ei ec fp fe pe la) (a b c : Int32) : mz_Ex D E N R hd wt ns wr ac np nd mk pt xo xa xb xc vq ve sp si sv yo ya yb yc (fun post => wpX_clear post (nI D, nI E, nI N, nI R, nI hd, nI wt, lm, tg, en, wr, ef, pl, ac, np, nd, mk, pt, xo, xa, xb, xc) a b 1) (fun post => wpY_onEntry post (nI D, nI E, nI N, nI R, nI ns, nI wt, lm, tg, ei, ec, vq, ve, fp, fe, pe, la, ac, sp, si, sv, mk, pt, yo, ya, yb, yc) 5 a b c) := by
  obtain ⟨d1, d2, e1, e2, n1, n2, r1, r2⟩ := S
  obtain ⟨T1, T2, T3, T4, T5⟩ := T
  rcases mz_rcase (D := D) (E := E) (N := N) (R := R) (hd := hd) (wt := wt) (lm := lm) (tg := tg) (en := en) (wr := wr) (ef := ef) (pl := pl) (ac := ac) (np := np) (nd := nd) (mk := mk) (pt := pt) (xo := xo) (xa := xa) (xb := xb) (xc := xc) (ns := ns) (ei := ei) (ec := ec) (vq := vq) (ve := ve) (fp := fp) (fe := fe) (pe := pe) (la := la) (sp := sp) (si := si) (sv := sv) (yo := yo) (ya := ya) (yb := yb) (yc := yc) T1 T3 d2 n2 a b with ⟨hX, hY⟩ | ⟨d, e, t, q, hd', he, rfl, rfl, ht, hq, h1, h2, h3, hX, hY⟩
  · refine mz_exi 2 ⟨T1, T2, T3, T4, T5⟩ (fun post k => ?_) (fun post k => ?_)
    · unfold wpX_clear
      dsimp only
      exact hX _ (br_t rfl k)
    · unfold wpY_onEntry
      dsimp only
      exact hY _ (br_t rfl k)
  have aq : vp_in (nI q) 4 := vp_in_nI hq (by omega)
  have a8 : vp_in (nI (8 * d + e)) 32 := vp_in_nI (by omega) (by omega)
  have T3' : ∀ k, mz_EnR N (upd en (8 * d + e) (-1) k) (upd ei (8 * d + e) (-1) k) (ec k) := mz_up12 T3 ⟨q, hq, h2, Or.inl ⟨rfl, rfl⟩⟩
  obtain ⟨r, pl', pe', la', T5', hX', hY'⟩ := mz_clt (D := D) (E := E) (N := N) (R := R) (hd := hd) (wt := wt) (lm := lm) (tg := tg) (wr := wr) (ef := ef) (ac := ac) (np := np) (nd := nd) (mk := mk) (pt := pt) (xo := xo) (xa := xa) (xb := xb) (xc := xc) (ns := ns) (ec := ec) (vq := vq) (ve := ve) (fp := fp) (fe := fe) (sp := sp) (si := si) (sv := sv) (yo := yo) (ya := ya) (yb := yb) (yc := yc) n2 T5 ht (T2 q)
  refine mz_exi r ⟨T1, T2, T3', T4, T5'⟩ (fun post k => ?_) (fun post k => ?_)
  · unfold wpX_clear
    dsimp only
    refine hX _ (br_f mz_10 (nm_r (mz_a8 d e) ?_))
    rw [nI_clamp (n := 8 * d + e) (by omega), h3, mz_r4 (a := 4 * t + q) (t := q) (by omega) (by omega), mz_q4 (a := 4 * t + q) (t := t) (by omega) (by omega), nI_clamp (n := q) (by omega)]
    exact ⟨a8, mz_d4, nm_e ⟨a8, mz_d4, aq, nm_e (br_f mz_10 ⟨a8, nm_e (hX' _ post k)⟩)⟩⟩
  · unfold wpY_onEntry
    dsimp only
    refine hY _ (br_f mz_10 (nm_r (mz_a8 d e) ?_))
    rw [nI_clamp (n := 8 * d + e) (by omega), h2, nI_clamp (n := q) (by omega)]
    exact ⟨a8, nm_r h1 ⟨a8, aq, nm_e (br_f (by decide) (br_f (by decide) (br_t rfl ⟨a8, nm_e (hY' _ post k)⟩)))⟩⟩
end
end
section
/-! the other commands, and all of them -/
section
variable {D E N R hd wt ns : Nat} {lm tg en wr ef pl ac np nd mk pt xo xa xb xc ei ec vq ve fp fe pe la sp si sv yo ya yb yc : Nat → Int32}
theorem mz_cAll (S : mz_Siz D E N R) (T : mz_Tab N lm tg en ef pl ei ec fp fe pe la) (a b c : Int32) : mz_Ex D E N R hd wt ns wr ac np nd mk pt xo xa xb xc vq ve sp si sv yo ya yb yc (fun post => wpX_moveAll post (nI D, nI E, nI N, nI R, nI hd, nI wt, lm, tg, en, wr, ef, pl, ac, np, nd, mk, pt, xo, xa, xb, xc) a b) (fun post => wpY_carryOut post (nI D, nI E, nI N, nI R, nI ns, nI wt, lm, tg, ei, ec, vq, ve, fp, fe, pe, la, ac, sp, si, sv, mk, pt, yo, ya, yb, yc) 4 a b c) := by
  obtain ⟨d1, d2, e1, e2, n1, n2, r1, r2⟩ := S
  rcases pk_ix a (n := 4) (by omega) with h | h | ⟨p, hp, rfl⟩
  · refine mz_exi 2 T (fun post k => ?_) (fun post k => ?_)
    · unfold wpX_moveAll
      dsimp only
      exact mz_w0 (Or.inl h) (br_t rfl k)
    · unfold wpY_carryOut
      dsimp only
      exact br_f (by decide) (br_f (by decide) (br_f (by decide) (br_f (by decide) (br_f (by decide) (br_f (by decide) (br_t h k))))))
  · refine mz_exi 2 T (fun post k => ?_) (fun post k => ?_)
    · unfold wpX_moveAll
      dsimp only
      exact mz_w0 (Or.inr h) (br_t rfl k)
    · unfold wpY_carryOut
      dsimp only
      exact br_f (by decide) (br_f (by decide) (br_f (by decide) (br_f (by decide) (br_f (by decide) (br_f (by decide) (br_f (mz_ge0 h (by omega)) (br_f (mz_gtl 3 4 h (by omega) (by omega)) k)))))))
  have Y1 : ∀ post : Int32 → SY → Prop, ((b < 0 → post 2 (nI D, nI E, nI N, nI R, nI ns, nI wt, lm, tg, ei, ec, vq, ve, fp, fe, pe, la, ac, sp, si, sv, mk, pt, yo, ya, yb, yc)) ∧ (¬ b < 0 → ((b ≤ 3 → ((nI p = b → post 1 (nI D, nI E, nI N, nI R, nI ns, nI wt, lm, tg, ei, ec, vq, ve, fp, fe, pe, la, ac, sp, si, sv, mk, pt, yo, ya, yb, yc)) ∧ (¬ nI p = b → ∃ n : Nat, wY_carryOut_229 post (nI p) b (nI D) (nI E) (nI N) (nI R) (nI ns) (nI wt) n 0 0 lm tg ei ec vq ve fp fe pe la ac sp si sv mk pt yo ya yb yc))) ∧ (¬ b ≤ 3 → post 2 (nI D, nI E, nI N, nI R, nI ns, nI wt, lm, tg, ei, ec, vq, ve, fp, fe, pe, la, ac, sp, si, sv, mk, pt, yo, ya, yb, yc))))) → wpY_carryOut post (nI D, nI E, nI N, nI R, nI ns, nI wt, lm, tg, ei, ec, vq, ve, fp, fe, pe, la, ac, sp, si, sv, mk, pt, yo, ya, yb, yc) 4 (nI p) b c := by
    intro post k
    unfold wpY_carryOut
    dsimp only
    exact br_f (by decide) (br_f (by decide) (br_f (by decide) (br_f (by decide) (br_f (by decide) (br_f (by decide) (br_f (nI_pos (by omega)) (br_t (nI_le (b := 3) (by omega) (by omega)) (br_f (by decide) (br_t rfl k)))))))))
  rcases pk_ix b (n := 4) (by omega) with h | h | ⟨q, hq, rfl⟩
  · refine mz_exi 2 T (fun post k => ?_) (fun post k => Y1 post (br_t h k))
    unfold wpX_moveAll
    dsimp only
    exact mz_w1 4 hp (by omega) (br_f mz_10 (mz_w0 (Or.inl h) (br_t rfl k)))
  · refine mz_exi 2 T (fun post k => ?_) (fun post k => Y1 post (br_f (mz_ge0 h (by omega)) (br_f (mz_gtl 3 4 h (by omega) (by omega)) k)))
    unfold wpX_moveAll
    dsimp only
    exact mz_w1 4 hp (by omega) (br_f mz_10 (mz_w0 (Or.inr h) (br_t rfl k)))
  have b3 : nI q ≤ nI 3 := nI_le (by omega) (by omega)
  have b0 : ¬ nI q < 0 := nI_pos (by omega)
  by_cases e : p = q
  · subst e
    refine mz_exi 1 T (fun post k => ?_) (fun post k => Y1 post (br_f b0 (br_t b3 (br_t rfl k))))
    unfold wpX_moveAll
    dsimp only
    exact mz_w1 4 hp (by omega) (br_f mz_10 (mz_w1 4 hq (by omega) (br_f mz_10 (br_t rfl k))))
  have ne : ¬ nI p = nI q := mz_ne (by omega) (by omega) e
  obtain ⟨T1, T2, T3, T4, T5⟩ := T
  rcases mz_first pe (nI p) N N 0 (by omega) with H | ⟨t, _, ht, et, Ht⟩
  · refine mz_exi 1 ⟨T1, T2, T3, T4, T5⟩ (fun post k => ?_) (fun post k => Y1 post (br_f b0 (br_t b3 (br_f ne ⟨N + 1, mz_ym0 n2 k N 0 (N + 1) (by omega) (by omega) H⟩))))
    unfold wpX_moveAll wpX_firstPendingAt
    dsimp only
    exact mz_w1 4 hp (by omega) (br_f mz_10 (mz_w1 4 hq (by omega) (br_f mz_10 (br_f ne ⟨N + 1, mz_fp0 n2 T5 (br_t rfl k) N 0 (N + 1) (by omega) (by omega) H⟩))))
  have T5' : ∀ k, mz_PlR (upd pl t (nI q) k) (upd pe t (nI q) k) (upd la t 0 k) := mz_up3 T5 (Or.inr ⟨q, hq, rfl, Or.inl ⟨rfl, rfl⟩⟩)
  have nt : ¬ nI t = -1 := mz_nm1 (by omega)
  have H0 : ∀ j, j ≤ t → ¬ upd pe t (nI q) j = nI p := by
    intro j hj
    by_cases c : j = t
    · rw [c, pk_us]; exact fun z => ne z.symm
    · rw [pk_un c]; exact Ht j (by omega) (by omega)
  rcases mz_first (upd pe t (nI q)) (nI p) N (N - (t + 1)) (t + 1) (by omega) with H | ⟨s, hs, hs', es, Hs⟩
  · have H' : ∀ j, 0 ≤ j → j < N → ¬ upd pe t (nI q) j = nI p := by
      intro j _ hj
      by_cases c : j ≤ t
      · exact H0 j c
      · exact H j (by omega) hj
    refine mz_exi (pl := upd pl t (nI q)) (pe := upd pe t (nI q)) (la := upd la t 0) 1 ⟨T1, T2, T3, T4, T5'⟩ (fun post k => ?_) (fun post k => Y1 post (br_f b0 (br_t b3 (br_f ne ⟨N + 1, ?_⟩))))
    · unfold wpX_moveAll wpX_firstPendingAt
      dsimp only
      refine mz_w1 4 hp (by omega) (br_f mz_10 (mz_w1 4 hq (by omega) (br_f mz_10 (br_f ne ⟨N + 1, mz_fp1 n2 T5 hp ht et (br_f nt (mz_st t rfl (by omega) rfl ⟨N + 1, ?_⟩)) t 0 (N + 1) (by omega) (by omega) Ht⟩))))
      exact mz_fp0 n2 T5' (br_t rfl k) N 0 (N + 1) (by omega) (by omega) H'
    · exact mz_ym2 n2 ht et (fun n hn => mz_ym0 n2 k (N - (t + 1)) (t + 1) n (by omega) hn H) t 0 (N + 1) (by omega) (by omega) Ht
  · have H' : ∀ j, 0 ≤ j → j < s → ¬ upd pe t (nI q) j = nI p := by
      intro j _ hj
      by_cases c : j ≤ t
      · exact H0 j c
      · exact Hs j (by omega) hj
    refine mz_exi (pl := upd pl t (nI q)) (pe := upd pe t (nI q)) (la := upd la t 0) 3 ⟨T1, T2, T3, T4, T5'⟩ (fun post k => ?_) (fun post k => Y1 post (br_f b0 (br_t b3 (br_f ne ⟨N + 1, ?_⟩))))
    · unfold wpX_moveAll wpX_firstPendingAt
      dsimp only
      refine mz_w1 4 hp (by omega) (br_f mz_10 (mz_w1 4 hq (by omega) (br_f mz_10 (br_f ne ⟨N + 1, mz_fp1 n2 T5 hp ht et (br_f nt (mz_st t rfl (by omega) rfl ⟨N + 1, ?_⟩)) t 0 (N + 1) (by omega) (by omega) Ht⟩))))
      exact mz_fp1 n2 T5' hp hs' es (br_f (mz_nm1 (by omega)) k) s 0 (N + 1) (by omega) (by omega) H'
    · exact mz_ym2 n2 ht et (fun n hn => mz_ym1 n2 hs' es k (s - (t + 1)) (t + 1) n (by omega) (by omega) Hs) t 0 (N + 1) (by omega) (by omega) Ht
theorem mz_cIva (S : mz_Siz D E N R) (T : mz_Tab N lm tg en ef pl ei ec fp fe pe la) (C : ∀ k, mz_CfR (wr k) (vq k) (ve k)) (a b c : Int32) : mz_Ex D E N R hd wt ns wr ac np nd mk pt xo xa xb xc vq ve sp si sv yo ya yb yc (fun post => wpX_invalidateAll post (nI D, nI E, nI N, nI R, nI hd, nI wt, lm, tg, en, wr, ef, pl, ac, np, nd, mk, pt, xo, xa, xb, xc) a) (fun post => wpY_carryOut post (nI D, nI E, nI N, nI R, nI ns, nI wt, lm, tg, ei, ec, vq, ve, fp, fe, pe, la, ac, sp, si, sv, mk, pt, yo, ya, yb, yc) 8 a b c) := by
  obtain ⟨d1, d2, e1, e2, n1, n2, r1, r2⟩ := S
  rcases pk_ix a (n := 4) (by omega) with h | h | ⟨p, hp, rfl⟩
  · refine mz_exi 2 T (fun post k => ?_) (fun post k => ?_)
    · unfold wpX_invalidateAll
      dsimp only
      exact mz_w0 (Or.inl h) (br_t rfl k)
    · unfold wpY_carryOut
      dsimp only
      exact br_f (by decide) (br_f (by decide) (br_f (by decide) (br_f (by decide) (br_f (by decide) (br_f (by decide) (br_t h k))))))
  · refine mz_exi 2 T (fun post k => ?_) (fun post k => ?_)
    · unfold wpX_invalidateAll
      dsimp only
      exact mz_w0 (Or.inr h) (br_t rfl k)
    · unfold wpY_carryOut
      dsimp only
      exact br_f (by decide) (br_f (by decide) (br_f (by decide) (br_f (by decide) (br_f (by decide) (br_f (by decide) (br_f (mz_ge0 h (by omega)) (br_f (mz_gtl 3 4 h (by omega) (by omega)) k)))))))
  obtain ⟨T1, T2, T3, T4, T5⟩ := T
  obtain ⟨ef', fp', fe', T4', hX, hY⟩ := mz_inva (D := D) (E := E) (N := N) (R := R) (hd := hd) (wt := wt) (lm := lm) (tg := tg) (en := en) (wr := wr) (pl := pl) (ac := ac) (np := np) (nd := nd) (mk := mk) (pt := pt) (xo := xo) (xa := xa) (xb := xb) (xc := xc) (ns := ns) (ei := ei) (ec := ec) (vq := vq) (ve := ve) (pe := pe) (la := la) (sp := sp) (si := si) (sv := sv) (yo := yo) (ya := ya) (yb := yb) (yc := yc) n2 T3 C hp 32 0 (by omega) ef fp fe T4
  refine mz_exi 1 ⟨T1, T2, T3, T4', T5⟩ (fun post k => ?_) (fun post k => ?_)
  · unfold wpX_invalidateAll
    dsimp only
    exact mz_w1 4 hp (by omega) (br_f mz_10 ⟨33, hX post 33 (by omega) k⟩)
  · unfold wpY_carryOut
    dsimp only
    exact br_f (by decide) (br_f (by decide) (br_f (by decide) (br_f (by decide) (br_f (by decide) (br_f (by decide) (br_f (nI_pos (by omega)) (br_t (nI_le (b := 3) (by omega) (by omega)) (br_f (by decide) (br_f (by decide) (br_t rfl ⟨33, hY post 33 (by omega) k⟩))))))))))
theorem mz_cSyn (S : mz_Siz D E N R) (T : mz_Tab N lm tg en ef pl ei ec fp fe pe la) (a b c : Int32) : mz_Ex D E N R hd wt ns wr ac np nd mk pt xo xa xb xc vq ve sp si sv yo ya yb yc (fun post => wpX_sync (fun r => post r (nI D, nI E, nI N, nI R, nI hd, nI wt, lm, tg, en, wr, ef, pl, ac, np, nd, mk, pt, xo, xa, xb, xc)) (nI D, nI E, nI N, nI R, nI hd, nI wt, lm, tg, en, wr, ef, pl, ac, np, nd, mk, pt, xo, xa, xb, xc) a) (fun post => wpY_carryOut post (nI D, nI E, nI N, nI R, nI ns, nI wt, lm, tg, ei, ec, vq, ve, fp, fe, pe, la, ac, sp, si, sv, mk, pt, yo, ya, yb, yc) 9 a b c) := by
  obtain ⟨d1, d2, e1, e2, n1, n2, r1, r2⟩ := S
  rcases pk_ix a (n := 4) (by omega) with h | h | ⟨p, hp, rfl⟩
  · refine mz_exi 2 T (fun post k => ?_) (fun post k => ?_)
    · unfold wpX_sync
      dsimp only
      exact mz_w0 (Or.inl h) (br_t rfl k)
    · unfold wpY_carryOut
      dsimp only
      exact br_f (by decide) (br_f (by decide) (br_f (by decide) (br_f (by decide) (br_f (by decide) (br_f (by decide) (br_t h k))))))
  · refine mz_exi 2 T (fun post k => ?_) (fun post k => ?_)
    · unfold wpX_sync
      dsimp only
      exact mz_w0 (Or.inr h) (br_t rfl k)
    · unfold wpY_carryOut
      dsimp only
      exact br_f (by decide) (br_f (by decide) (br_f (by decide) (br_f (by decide) (br_f (by decide) (br_f (by decide) (br_f (mz_ge0 h (by omega)) (br_f (mz_gtl 3 4 h (by omega) (by omega)) k)))))))
  obtain ⟨r, hX, hY⟩ := mz_sync (D := D) (E := E) (N := N) (R := R) (hd := hd) (wt := wt) (lm := lm) (tg := tg) (en := en) (wr := wr) (ef := ef) (ac := ac) (np := np) (nd := nd) (mk := mk) (pt := pt) (xo := xo) (xa := xa) (xb := xb) (xc := xc) (ns := ns) (ei := ei) (ec := ec) (vq := vq) (ve := ve) (fp := fp) (fe := fe) (sp := sp) (si := si) (sv := sv) (yo := yo) (ya := ya) (yb := yb) (yc := yc) n2 T.2.2.2.2 hp N 0 (by omega)
  refine mz_exi r T (fun post k => ?_) (fun post k => ?_)
  · unfold wpX_sync
    dsimp only
    exact mz_w1 4 hp (by omega) (br_f mz_10 ⟨N + 1, hX _ (N + 1) (by omega) k⟩)
  · unfold wpY_carryOut
    dsimp only
    exact br_f (by decide) (br_f (by decide) (br_f (by decide) (br_f (by decide) (br_f (by decide) (br_f (by decide) (br_f (nI_pos (by omega)) (br_t (nI_le (b := 3) (by omega) (by omega)) (br_f (by decide) (br_f (by decide) (br_f (by decide) ⟨N + 1, hY post (N + 1) (by omega) k⟩))))))))))
theorem mz_exec (S : mz_Siz D E N R) (T : mz_Tab N lm tg en ef pl ei ec fp fe pe la) (C : ∀ k, mz_CfR (wr k) (vq k) (ve k)) {o : Nat} (ho : o < 10) (a b c : Int32) : mz_Ex D E N R hd wt ns wr ac np nd mk pt xo xa xb xc vq ve sp si sv yo ya yb yc (fun post => wpX_execute post (nI D, nI E, nI N, nI R, nI hd, nI wt, lm, tg, en, wr, ef, pl, ac, np, nd, mk, pt, xo, xa, xb, xc) (nI o) a b c) (fun post => wpY_carryOut post (nI D, nI E, nI N, nI R, nI ns, nI wt, lm, tg, ei, ec, vq, ve, fp, fe, pe, la, ac, sp, si, sv, mk, pt, yo, ya, yb, yc) (nI o) a b c) := by
  have c' : o = 0 ∨ o = 1 ∨ o = 2 ∨ o = 3 ∨ o = 4 ∨ o = 5 ∨ o = 6 ∨ o = 7 ∨ o = 8 ∨ o = 9 := by omega
  rcases c' with rfl | rfl | rfl | rfl | rfl | rfl | rfl | rfl | rfl | rfl
  · obtain ⟨r, lm', tg', en', ef', pl', ei', ec', fp', fe', pe', la', T', hX, hY⟩ := mz_cDev S T a b c
    refine ⟨r, lm', tg', en', ef', pl', ei', ec', fp', fe', pe', la', T', fun post k => ?_, fun post k => hY post k⟩
    unfold wpX_execute
    dsimp only
    exact br_f (by decide) (br_f (by decide) (br_t rfl (hX _ k)))
  · obtain ⟨r, lm', tg', en', ef', pl', ei', ec', fp', fe', pe', la', T', hX, hY⟩ := mz_cCol S T a b c
    refine ⟨r, lm', tg', en', ef', pl', ei', ec', fp', fe', pe', la', T', fun post k => ?_, fun post k => hY post k⟩
    unfold wpX_execute
    dsimp only
    exact br_f (by decide) (br_f (by decide) (br_f (by decide) (br_t rfl (hX _ k))))
  · obtain ⟨r, lm', tg', en', ef', pl', ei', ec', fp', fe', pe', la', T', hX, hY⟩ := mz_cEvt S T C a b c
    refine ⟨r, lm', tg', en', ef', pl', ei', ec', fp', fe', pe', la', T', fun post k => ?_, fun post k => hY post k⟩
    unfold wpX_execute
    dsimp only
    exact br_f (by decide) (br_f (by decide) (br_f (by decide) (br_f (by decide) (br_t rfl (hX _ k)))))
  · obtain ⟨r, lm', tg', en', ef', pl', ei', ec', fp', fe', pe', la', T', hX, hY⟩ := mz_cMov S T a b c
    refine ⟨r, lm', tg', en', ef', pl', ei', ec', fp', fe', pe', la', T', fun post k => ?_, fun post k => ?_⟩
    · unfold wpX_execute
      dsimp only
      exact br_f (by decide) (br_f (by decide) (br_f (by decide) (br_f (by decide) (br_f (by decide) (br_t rfl (hX _ k))))))
    · unfold wpY_carryOut
      dsimp only
      exact br_f (by decide) (br_f (by decide) (br_t rfl (by unfold wY_carryOut_152; exact hY _ k)))
  · obtain ⟨r, lm', tg', en', ef', pl', ei', ec', fp', fe', pe', la', T', hX, hY⟩ := mz_cAll S T a b c
    refine ⟨r, lm', tg', en', ef', pl', ei', ec', fp', fe', pe', la', T', fun post k => ?_, fun post k => hY post k⟩
    unfold wpX_execute
    dsimp only
    exact br_f (by decide) (br_f (by decide) (br_f (by decide) (br_f (by decide) (br_f (by decide) (br_f (by decide) (br_t rfl (hX _ k)))))))
  · obtain ⟨r, lm', tg', en', ef', pl', ei', ec', fp', fe', pe', la', T', hX, hY⟩ := mz_cDis S T a b c
    refine ⟨r, lm', tg', en', ef', pl', ei', ec', fp', fe', pe', la', T', fun post k => ?_, fun post k => ?_⟩
    · unfold wpX_execute
      dsimp only
      exact br_f (by decide) (br_f (by decide) (br_f (by decide) (br_f (by decide) (br_f (by decide) (br_f (by decide) (br_f (by decide) (br_t rfl (hX _ k))))))))
    · unfold wpY_carryOut
      dsimp only
      exact br_f (by decide) (br_f (by decide) (br_f (by decide) (br_t rfl (by unfold wY_carryOut_152; exact hY _ k))))
  · obtain ⟨r, lm', tg', en', ef', pl', ei', ec', fp', fe', pe', la', T', hX, hY⟩ := mz_cClr S T a b c
    refine ⟨r, lm', tg', en', ef', pl', ei', ec', fp', fe', pe', la', T', fun post k => ?_, fun post k => ?_⟩
    · unfold wpX_execute
      dsimp only
      exact br_f (by decide) (br_f (by decide) (br_f (by decide) (br_f (by decide) (br_f (by decide) (br_f (by decide) (br_f (by decide) (br_f (by decide) (br_t rfl (hX _ k)))))))))
    · unfold wpY_carryOut
      dsimp only
      exact br_f (by decide) (br_f (by decide) (br_f (by decide) (br_f (by decide) (br_t rfl (by unfold wY_carryOut_152; exact hY _ k)))))
  · obtain ⟨r, lm', tg', en', ef', pl', ei', ec', fp', fe', pe', la', T', hX, hY⟩ := mz_cInv S T C a b c
    refine ⟨r, lm', tg', en', ef', pl', ei', ec', fp', fe', pe', la', T', fun post k => ?_, fun post k => ?_⟩
    · unfold wpX_execute
      dsimp only
      exact br_f (by decide) (br_f (by decide) (br_f (by decide) (br_f (by decide) (br_f (by decide) (br_f (by decide) (br_f (by decide) (br_f (by decide) (br_f (by decide) (br_t rfl (hX _ k))))))))))
    · unfold wpY_carryOut
      dsimp only
      exact br_f (by decide) (br_f (by decide) (br_f (by decide) (br_f (by decide) (br_f (by decide) (br_t rfl (by unfold wY_carryOut_152; exact hY _ k))))))
  · obtain ⟨r, lm', tg', en', ef', pl', ei', ec', fp', fe', pe', la', T', hX, hY⟩ := mz_cIva S T C a b c
    refine ⟨r, lm', tg', en', ef', pl', ei', ec', fp', fe', pe', la', T', fun post k => ?_, fun post k => hY post k⟩
    unfold wpX_execute
    dsimp only
    exact br_f (by decide) (br_f (by decide) (br_f (by decide) (br_f (by decide) (br_f (by decide) (br_f (by decide) (br_f (by decide) (br_f (by decide) (br_f (by decide) (br_f (by decide) (br_t rfl (hX _ k)))))))))))
  · obtain ⟨r, lm', tg', en', ef', pl', ei', ec', fp', fe', pe', la', T', hX, hY⟩ := mz_cSyn S T a b c
    refine ⟨r, lm', tg', en', ef', pl', ei', ec', fp', fe', pe', la', T', fun post k => ?_, fun post k => hY post k⟩
    unfold wpX_execute
    dsimp only
    exact br_f (by decide) (br_f (by decide) (br_f (by decide) (br_f (by decide) (br_f (by decide) (br_f (by decide) (br_f (by decide) (br_f (by decide) (br_f (by decide) (br_f (by decide) (br_f (by decide) (br_t rfl (hX _ k))))))))))))
end
end
section
/-! step, drain -/
def mz_sh (a : Nat → Int32) (t j : Nat) : Nat → Int32 := fun i => if t ≤ i ∧ i < j then a (i + 1) else a i
theorem mz_sh0 (a : Nat → Int32) (t : Nat) : mz_sh a t t = a := funext fun i => if_neg (by omega)
theorem mz_shu (a : Nat → Int32) (t j : Nat) (h : t ≤ j) : upd (mz_sh a t j) j (a (j + 1)) = mz_sh a t (j + 1) := by
  funext i
  unfold upd mz_sh
  by_cases e : i = j
  · subst e
    rw [if_pos rfl, if_pos ⟨h, by omega⟩]
  · rw [if_neg e]
    by_cases c : t ≤ i ∧ i < j
    · rw [if_pos c, if_pos ⟨c.1, by omega⟩]
    · rw [if_neg c, if_neg (by omega)]
theorem mz_shr (a : Nat → Int32) (t j : Nat) (hj : j + 1 < 2 ^ 31) : mz_sh a t j (nI (j + 1)).toNatClampNeg = a (j + 1) := by
  rw [nI_clamp hj]
  exact if_neg (by omega)
theorem mz_shi (a : Nat → Int32) {t j i : Nat} (h1 : t ≤ i) (h2 : i < j) : mz_sh a t j i = a (i + 1) := if_pos ⟨h1, h2⟩
theorem mz_shl (a : Nat → Int32) {t j i : Nat} (h1 : i < t) : mz_sh a t j i = a i := if_neg (by omega)
section
variable {D E N R hd wt ns : Nat} {lm tg en wr ef pl ac np nd mk pt xo xa xb xc ei ec vq ve fp fe pe la sp si sv yo ya yb yc : Nat → Int32}
theorem mz_y47 {post : Int32 → SY → Prop} {r : Int32} (hw : wt ≤ 16) (h : post r (nI D, nI E, nI N, nI R, nI ns, nI (wt - 1), lm, tg, ei, ec, vq, ve, fp, fe, pe, la, ac, sp, si, sv, mk, pt, mz_sh yo 0 (wt - 1), mz_sh ya 0 (wt - 1), mz_sh yb 0 (wt - 1), mz_sh yc 0 (wt - 1))) : ∀ d j n : Nat, j + 1 + d = wt → d < n → wY_step_47 post r (nI D) (nI E) (nI N) (nI R) (nI ns) (nI wt) n (nI j) lm tg ei ec vq ve fp fe pe la ac sp si sv mk pt (mz_sh yo 0 j) (mz_sh ya 0 j) (mz_sh yb 0 j) (mz_sh yc 0 j) := by
  intro d
  induction d with
  | zero =>
    intro j n hj hn
    obtain ⟨n, rfl⟩ : ∃ m, n = m + 1 := ⟨n - 1, by omega⟩
    obtain rfl : j = wt - 1 := by omega
    exact br_t (by rw [nI_1]; exact nI_le (by omega) (by omega)) (nm_r (mz_sub1 (by omega)) h)
  | succ d ih =>
    intro j n hj hn
    obtain ⟨n, rfl⟩ : ∃ m, n = m + 1 := ⟨n - 1, by omega⟩
    rw [wY_step_47]
    dsimp only
    rw [nI_1 j]
    have a1 : vp_in (nI (j + 1)) 16 := vp_in_nI (by omega) (by omega)
    refine br_f (nI_ge (by omega) (by omega)) ⟨a1, mz_st j rfl (by omega) (mz_shr yo 0 j (by omega)) ⟨a1, mz_st j rfl (by omega) (mz_shr ya 0 j (by omega)) ⟨a1, mz_st j rfl (by omega) (mz_shr yb 0 j (by omega)) ⟨a1, mz_st j rfl (by omega) (mz_shr yc 0 j (by omega)) (nm_e ?_)⟩⟩⟩⟩
    rw [mz_shu yo 0 j (by omega), mz_shu ya 0 j (by omega), mz_shu yb 0 j (by omega), mz_shu yc 0 j (by omega)]
    exact ih (j + 1) n (by omega) (by omega)
end
theorem mz_step {k : Nat} {u : SX} {v : SY} (I : i_Rel k u v) : ∃ (r : Int32) (u' : SX) (v' : SY), i_Rel k u' v' ∧ (∀ post : Int32 → SX → Prop, post r u' → wpX_step post u) ∧ (∀ post : Int32 → SY → Prop, post r v' → wpY_step post v) := by
  refine mz_el (P := fun u v => ∃ (r : Int32) (u' : SX) (v' : SY), i_Rel k u' v' ∧ (∀ post : Int32 → SX → Prop, post r u' → wpX_step post u) ∧ (∀ post : Int32 → SY → Prop, post r v' → wpY_step post v)) ?_ I
  intro D E N R hd wt ns lm tg en wr ef pl ac np nd mk pt xo xa xb xc ei ec vq ve fp fe pe la sp si sv yo ya yb yc F
  have J : i_Rel k (nI D, nI E, nI N, nI R, nI hd, nI wt, lm, tg, en, wr, ef, pl, ac, np, nd, mk, pt, xo, xa, xb, xc) (nI D, nI E, nI N, nI R, nI ns, nI wt, lm, tg, ei, ec, vq, ve, fp, fe, pe, la, ac, sp, si, sv, mk, pt, yo, ya, yb, yc) := mz_in F
  obtain ⟨⟨d1, d2, e1, e2, n1, n2, r1, r2⟩, T, C, A, G, q1, q2, q3⟩ := F
  by_cases hw : wt = 0
  · subst hw
    refine ⟨0, _, _, J, fun post h => ?_, fun post h => ?_⟩
    · unfold wpX_step
      dsimp only
      exact br_t rfl h
    · unfold wpY_step
      dsimp only
      exact br_t rfl h
  have w0 : ¬ nI wt = 0 := nI_ne0 (by omega) (by omega)
  obtain ⟨⟨o, ho, g0⟩, g1, g2, g3, g4⟩ := q3 0 (by omega)
  rw [show (hd + 0) % 16 = hd by omega] at g1 g2 g3 g4
  have ah : vp_in (nI hd) 16 := vp_in_nI q1 (by omega)
  obtain ⟨r, lm', tg', en', ef', pl', ei', ec', fp', fe', pe', la', T', hX, hY⟩ := mz_exec (D := D) (E := E) (N := N) (R := R) (hd := hd) (wt := wt) (wr := wr) (ac := ac) (np := np) (nd := nd) (mk := mk) (pt := pt) (xo := xo) (xa := xa) (xb := xb) (xc := xc) (ns := ns) (vq := vq) (ve := ve) (sp := sp) (si := si) (sv := sv) (yo := yo) (ya := ya) (yb := yb) (yc := yc) ⟨d1, d2, e1, e2, n1, n2, r1, r2⟩ T C ho (ya 0) (yb 0) (yc 0)
  by_cases h3 : r = 3
  · subst h3
    refine ⟨3, (nI D, nI E, nI N, nI R, nI hd, nI wt, lm', tg', en', wr, ef', pl', ac, np, nd, mk, pt, xo, xa, xb, xc), (nI D, nI E, nI N, nI R, nI ns, nI wt, lm', tg', ei', ec', vq, ve, fp', fe', pe', la', ac, sp, si, sv, mk, pt, yo, ya, yb, yc), mz_in ⟨⟨d1, d2, e1, e2, n1, n2, r1, r2⟩, T', C, A, G, q1, q2, q3⟩, fun post h => ?_, fun post h => ?_⟩
    · unfold wpX_step
      dsimp only
      rw [nI_clamp (n := hd) (by omega), g1, g2, g3, g4, g0]
      exact br_f w0 ⟨ah, ah, ah, ah, hX _ (br_t rfl h)⟩
    · unfold wpY_step
      dsimp only
      rw [g0]
      exact br_f w0 (hY _ (br_t rfl h))
  · refine ⟨r, (nI D, nI E, nI N, nI R, nI ((hd + 1) % 16), nI (wt - 1), lm', tg', en', wr, ef', pl', ac, np, nd, mk, pt, xo, xa, xb, xc), (nI D, nI E, nI N, nI R, nI ns, nI (wt - 1), lm', tg', ei', ec', vq, ve, fp', fe', pe', la', ac, sp, si, sv, mk, pt, mz_sh yo 0 (wt - 1), mz_sh ya 0 (wt - 1), mz_sh yb 0 (wt - 1), mz_sh yc 0 (wt - 1)), mz_in ⟨⟨d1, d2, e1, e2, n1, n2, r1, r2⟩, T', C, A, G, by omega, by omega, ?_⟩, fun post h => ?_, fun post h => ?_⟩
    · intro j hj
      rw [mz_shi yo (Nat.zero_le j) hj, mz_shi ya (Nat.zero_le j) hj, mz_shi yb (Nat.zero_le j) hj, mz_shi yc (Nat.zero_le j) hj, show ((hd + 1) % 16 + j) % 16 = (hd + (j + 1)) % 16 by omega]
      exact q3 (j + 1) (by omega)
    · unfold wpX_step
      dsimp only
      rw [nI_clamp (n := hd) (by omega), g1, g2, g3, g4, g0]
      exact br_f w0 ⟨ah, ah, ah, ah, hX _ (br_f h3 ⟨mz_d16, nm_r (by rw [nI_1]; exact mz_r16 (by omega) rfl) (nm_r (mz_sub1 (by omega)) h)⟩)⟩
    · unfold wpY_step
      dsimp only
      rw [g0]
      refine br_f w0 (hY _ (br_f h3 ⟨wt, ?_⟩))
      have z := mz_y47 (ns := ns) (D := D) (E := E) (N := N) (R := R) (by omega) h (wt - 1) 0 wt (by omega) (by omega)
      rw [mz_sh0, mz_sh0, mz_sh0, mz_sh0] at z
      exact z
theorem i_vc_step {k : Nat} {u : SX} {v : SY} (I : i_Rel k u v) (hk : k + 5 ≤ 2564) : wpX_step (fun r u' => wpY_step (fun r' v' => r' = r ∧ i_Rel (k + 5) u' v') v) u := by
  obtain ⟨r, u', v', J, hX, hY⟩ := mz_step I
  exact hX _ (hY _ ⟨rfl, J⟩)
def mz_dX (post : Int32 → SX → Prop) (n : Nat) (x1 x2 : Int32) (u : SX) : Prop := match u with
  | (a0, a1, a2, a3, a4, a5, a6, a7, a8, a9, a10, a11, a12, a13, a14, a15, a16, a17, a18, a19, a20) => wX_drain_4 post n x1 x2 a0 a1 a2 a3 a4 a5 a6 a7 a8 a9 a10 a11 a12 a13 a14 a15 a16 a17 a18 a19 a20
def mz_dY (post : Int32 → SY → Prop) (n : Nat) (x1 x2 : Int32) (u : SY) : Prop := match u with
  | (b0, b1, b2, b3, b4, b5, b6, b7, b8, b9, b10, b11, b12, b13, b14, b15, b16, b17, b18, b19, b20, b21, b22, b23, b24, b25) => wY_drain_4 post n x1 x2 b0 b1 b2 b3 b4 b5 b6 b7 b8 b9 b10 b11 b12 b13 b14 b15 b16 b17 b18 b19 b20 b21 b22 b23 b24 b25
theorem mz_dX0 {post : Int32 → SX → Prop} {n : Nat} {x1 x2 : Int32} {u : SX} (h : 16 < x2 ∨ ¬ x1 = 1) (k : post x1 u) : mz_dX post (n + 1) x1 x2 u := by
  obtain ⟨a0, a1, a2, a3, a4, a5, a6, a7, a8, a9, a10, a11, a12, a13, a14, a15, a16, a17, a18, a19, a20⟩ := u
  show wX_drain_4 post (n + 1) x1 x2 a0 a1 a2 a3 a4 a5 a6 a7 a8 a9 a10 a11 a12 a13 a14 a15 a16 a17 a18 a19 a20
  by_cases c : 16 < x2
  · exact br_t c k
  · exact br_f c (br_f (h.resolve_left c) k)
theorem mz_dY0 {post : Int32 → SY → Prop} {n : Nat} {x1 x2 : Int32} {u : SY} (h : 16 < x2 ∨ ¬ x1 = 1) (k : post x1 u) : mz_dY post (n + 1) x1 x2 u := by
  obtain ⟨b0, b1, b2, b3, b4, b5, b6, b7, b8, b9, b10, b11, b12, b13, b14, b15, b16, b17, b18, b19, b20, b21, b22, b23, b24, b25⟩ := u
  show wY_drain_4 post (n + 1) x1 x2 b0 b1 b2 b3 b4 b5 b6 b7 b8 b9 b10 b11 b12 b13 b14 b15 b16 b17 b18 b19 b20 b21 b22 b23 b24 b25
  by_cases c : 16 < x2
  · exact br_t c k
  · exact br_f c (br_f (h.resolve_left c) k)
theorem mz_dX1 {post : Int32 → SX → Prop} {n i : Nat} {r : Int32} {u u' : SX} (hi : i ≤ 16) (hX : ∀ post : Int32 → SX → Prop, post r u' → wpX_step post u) (k : mz_dX post n r (nI (i + 1)) u') : mz_dX post (n + 1) 1 (nI i) u := by
  obtain ⟨a0, a1, a2, a3, a4, a5, a6, a7, a8, a9, a10, a11, a12, a13, a14, a15, a16, a17, a18, a19, a20⟩ := u
  show wX_drain_4 post (n + 1) 1 (nI i) a0 a1 a2 a3 a4 a5 a6 a7 a8 a9 a10 a11 a12 a13 a14 a15 a16 a17 a18 a19 a20
  refine br_f (nI_nlt (a := 16) hi (by omega)) (br_t rfl (hX _ ?_))
  obtain ⟨c0, c1, c2, c3, c4, c5, c6, c7, c8, c9, c10, c11, c12, c13, c14, c15, c16, c17, c18, c19, c20⟩ := u'
  exact nm_r (nI_1 i) k
theorem mz_dY1 {post : Int32 → SY → Prop} {n i : Nat} {r : Int32} {u u' : SY} (hi : i ≤ 16) (hY : ∀ post : Int32 → SY → Prop, post r u' → wpY_step post u) (k : mz_dY post n r (nI (i + 1)) u') : mz_dY post (n + 1) 1 (nI i) u := by
  obtain ⟨b0, b1, b2, b3, b4, b5, b6, b7, b8, b9, b10, b11, b12, b13, b14, b15, b16, b17, b18, b19, b20, b21, b22, b23, b24, b25⟩ := u
  show wY_drain_4 post (n + 1) 1 (nI i) b0 b1 b2 b3 b4 b5 b6 b7 b8 b9 b10 b11 b12 b13 b14 b15 b16 b17 b18 b19 b20 b21 b22 b23 b24 b25
  refine br_f (nI_nlt (a := 16) hi (by omega)) (br_t rfl (hY _ ?_))
  obtain ⟨c0, c1, c2, c3, c4, c5, c6, c7, c8, c9, c10, c11, c12, c13, c14, c15, c16, c17, c18, c19, c20, c21, c22, c23, c24, c25⟩ := u'
  exact nm_r (nI_1 i) k
theorem mz_drain {k : Nat} : ∀ (d i : Nat) (u : SX) (v : SY) (r0 : Int32), i + d = 17 → i_Rel k u v → ∃ (r : Int32) (u' : SX) (v' : SY), i_Rel k u' v'
    ∧ (∀ (post : Int32 → SX → Prop) (n : Nat), d < n → post r u' → mz_dX post n r0 (nI i) u) ∧ (∀ (post : Int32 → SY → Prop) (n : Nat), d < n → post r v' → mz_dY post n r0 (nI i) v) := by
  intro d
  induction d with
  | zero =>
    intro i u v r0 hi I
    refine ⟨r0, u, v, I, fun post n hn h => ?_, fun post n hn h => ?_⟩
    · obtain ⟨n, rfl⟩ : ∃ m, n = m + 1 := ⟨n - 1, by omega⟩
      exact mz_dX0 (Or.inl (nI_lt (a := 16) (by omega) (by omega))) h
    · obtain ⟨n, rfl⟩ : ∃ m, n = m + 1 := ⟨n - 1, by omega⟩
      exact mz_dY0 (Or.inl (nI_lt (a := 16) (by omega) (by omega))) h
  | succ d ih =>
    intro i u v r0 hi I
    by_cases e : r0 = 1
    · subst e
      obtain ⟨r1, u1, v1, I1, hX, hY⟩ := mz_step I
      obtain ⟨r, u', v', I', hX', hY'⟩ := ih (i + 1) u1 v1 r1 (by omega) I1
      refine ⟨r, u', v', I', fun post n hn h => ?_, fun post n hn h => ?_⟩
      · obtain ⟨n, rfl⟩ : ∃ m, n = m + 1 := ⟨n - 1, by omega⟩
        exact mz_dX1 (by omega) hX (hX' post n (by omega) h)
      · obtain ⟨n, rfl⟩ : ∃ m, n = m + 1 := ⟨n - 1, by omega⟩
        exact mz_dY1 (by omega) hY (hY' post n (by omega) h)
    · refine ⟨r0, u, v, I, fun post n hn h => ?_, fun post n hn h => ?_⟩
      · obtain ⟨n, rfl⟩ : ∃ m, n = m + 1 := ⟨n - 1, by omega⟩
        exact mz_dX0 (Or.inr e) h
      · obtain ⟨n, rfl⟩ : ∃ m, n = m + 1 := ⟨n - 1, by omega⟩
        exact mz_dY0 (Or.inr e) h
theorem mz_dXe {post : Int32 → SX → Prop} {n : Nat} {u : SX} (h : mz_dX post n 1 0 u) : wpX_drain post u := by
  obtain ⟨a0, a1, a2, a3, a4, a5, a6, a7, a8, a9, a10, a11, a12, a13, a14, a15, a16, a17, a18, a19, a20⟩ := u
  unfold wpX_drain
  dsimp only
  exact ⟨n, h⟩
theorem mz_dYe {post : Int32 → SY → Prop} {n : Nat} {u : SY} (h : mz_dY post n 1 0 u) : wpY_drain post u := by
  obtain ⟨b0, b1, b2, b3, b4, b5, b6, b7, b8, b9, b10, b11, b12, b13, b14, b15, b16, b17, b18, b19, b20, b21, b22, b23, b24, b25⟩ := u
  unfold wpY_drain
  dsimp only
  exact ⟨n, h⟩
theorem i_vc_drain {k : Nat} {u : SX} {v : SY} (I : i_Rel k u v) (hk : k + 5 ≤ 2564) : wpX_drain (fun r u' => wpY_drain (fun r' v' => r' = r ∧ i_Rel (k + 5) u' v') v) u := by
  obtain ⟨r, u', v', J, hX, hY⟩ := mz_drain 17 0 u v 1 (by omega) I
  exact mz_dXe (hX _ 18 (by omega) (mz_dYe (hY _ 18 (by omega) ⟨rfl, J⟩)))
end
section
/-! the nests -/
theorem mz_cnt_s {P : Nat → Nat} {p j : Nat} (h : P j = p) : mz_cnt P p (j + 1) = mz_cnt P p j + 1 := by
  show mz_cnt P p j + (if P j = p then 1 else 0) = _
  rw [if_pos h]
theorem mz_cnt_n {P : Nat → Nat} {p j : Nat} (h : ¬ P j = p) : mz_cnt P p (j + 1) = mz_cnt P p j := by
  show mz_cnt P p j + (if P j = p then 1 else 0) = _
  rw [if_neg h]
  rfl
theorem mz_cnt_mono {P : Nat → Nat} {p i : Nat} : ∀ j, i ≤ j → mz_cnt P p i ≤ mz_cnt P p j := by
  intro j
  induction j with
  | zero =>
    intro h
    rw [show i = 0 by omega]
    exact Nat.le_refl _
  | succ j ih =>
    intro h
    by_cases e : i = j + 1
    · rw [e]; exact Nat.le_refl _
    · have l := ih (by omega)
      by_cases c : P j = p
      · rw [mz_cnt_s c]; omega
      · rw [mz_cnt_n c]; exact l
theorem mz_cnt_lt {P : Nat → Nat} {p i j : Nat} (h : i < j) (e : P i = p) : mz_cnt P p i < mz_cnt P p j := by
  have l := mz_cnt_mono (P := P) (p := p) j (show i + 1 ≤ j from h)
  rw [mz_cnt_s e] at l
  omega
theorem mz_cnt_find {P : Nat → Nat} {p k : Nat} : ∀ n, k < mz_cnt P p n → ∃ j, j < n ∧ P j = p ∧ mz_cnt P p j = k := by
  intro n
  induction n with
  | zero => intro h; exact absurd h (Nat.not_lt_zero k)
  | succ n ih =>
    intro h
    by_cases c : P n = p
    · rw [mz_cnt_s c] at h
      by_cases e : k = mz_cnt P p n
      · exact ⟨n, by omega, c, e.symm⟩
      · obtain ⟨j, h1, h2, h3⟩ := ih (by omega)
        exact ⟨j, by omega, h2, h3⟩
    · rw [mz_cnt_n c] at h
      obtain ⟨j, h1, h2, h3⟩ := ih h
      exact ⟨j, by omega, h2, h3⟩
theorem mz_cnt_ext {P P' : Nat → Nat} {p : Nat} : ∀ n, (∀ i, i < n → P' i = P i) → mz_cnt P' p n = mz_cnt P p n := by
  intro n
  induction n with
  | zero => intro _; rfl
  | succ n ih =>
    intro h
    have l := ih (fun i hi => h i (by omega))
    have e := h n (by omega)
    show mz_cnt P' p n + (if P' n = p then 1 else 0) = mz_cnt P p n + (if P n = p then 1 else 0)
    rw [l, e]
section
variable {D E N R hd wt ns : Nat} {lm tg en wr ef pl ac np nd mk pt xo xa xb xc ei ec vq ve fp fe pe la sp si sv yo ya yb yc : Nat → Int32}
variable {P I V : Nat → Nat}
theorem mz_nd {p : Nat} (G : mz_Nes N ns ac np nd sp si sv P I V) (hp : p < 4) : nd p = nI (mz_cnt P p ns) := G.2.1 p hp
theorem mz_c16 {p : Nat} (G : mz_Nes N ns ac np nd sp si sv P I V) : mz_cnt P p ns ≤ 16 := by
  by_cases h : mz_cnt P p ns = 0
  · omega
  · obtain ⟨j, h1, h2, h3⟩ := mz_cnt_find (P := P) (p := p) (k := mz_cnt P p ns - 1) ns (by omega)
    have l := (G.1 j h1).2.2.2.2.2.2.2.2
    rw [h2, h3] at l
    omega
theorem mz_npk {p k : Nat} (G : mz_Nes N ns ac np nd sp si sv P I V) (hk : k < mz_cnt P p ns) : ∃ j, j < ns ∧ P j = p ∧ mz_cnt P p j = k ∧ I j < N ∧ V j < 16 ∧ np (16 * p + k) = nI (16 * I j + V j) ∧ V j + k ≤ 15 := by
  obtain ⟨j, h1, h2, h3⟩ := mz_cnt_find (P := P) (p := p) (k := k) ns hk
  obtain ⟨g1, g2, g3, g4, g5, g6, g7, g8, g9⟩ := G.1 j h1
  rw [h2, h3] at g8 g9
  exact ⟨j, h1, h2, h3, g2, g3, g8, g9⟩
/-! findPair -/
theorem mz_fs {post : Int32 → Prop} {x1 x2 x3 : Int32} {m n : Nat} (hm : m < 32) (c : ¬ sp m = x1) (k : wY_findPair_10 post x1 x2 (nI D) (nI E) (nI N) (nI R) (nI ns) (nI wt) lm tg ei ec vq ve fp fe pe la ac sp si sv mk pt yo ya yb yc n x3 (nI m + (-1))) : wY_findPair_10 post x1 x2 (nI D) (nI E) (nI N) (nI R) (nI ns) (nI wt) lm tg ei ec vq ve fp fe pe la ac sp si sv mk pt yo ya yb yc (n + 1) x3 (nI (m + 1) + (-1)) := by
  have z : (nI m).toNatClampNeg = m := nI_clamp (by omega)
  have a : vp_in (nI m) 32 := vp_in_nI hm (by omega)
  rw [pk_m1]
  refine br_f (nI_pos (by omega)) ⟨a, br_f (by rw [z]; exact c) ?_⟩
  unfold wY_findPair_34
  exact ⟨a, br_f (by rw [z]; exact c) (nm_e k)⟩
theorem mz_fz {post : Int32 → Prop} {x1 x2 x3 : Int32} {n : Nat} (k : post (-1)) : wY_findPair_10 post x1 x2 (nI D) (nI E) (nI N) (nI R) (nI ns) (nI wt) lm tg ei ec vq ve fp fe pe la ac sp si sv mk pt yo ya yb yc (n + 1) x3 (nI 0 + (-1)) := br_t (by decide) k
theorem mz_fN {post : Int32 → Prop} {x1 x2 x3 : Int32} (k : post (-1)) : ∀ m n : Nat, m ≤ 32 → m < n → (∀ j, j < m → ¬ sp j = x1) → wY_findPair_10 post x1 x2 (nI D) (nI E) (nI N) (nI R) (nI ns) (nI wt) lm tg ei ec vq ve fp fe pe la ac sp si sv mk pt yo ya yb yc n x3 (nI m + (-1)) := by
  intro m
  induction m with
  | zero =>
    intro n _ hn _
    obtain ⟨n, rfl⟩ : ∃ m, n = m + 1 := ⟨n - 1, by omega⟩
    exact mz_fz k
  | succ m ih =>
    intro n hm hn H
    obtain ⟨n, rfl⟩ : ∃ m, n = m + 1 := ⟨n - 1, by omega⟩
    exact mz_fs (by omega) (H m (by omega)) (ih n (by omega) (by omega) (fun j hj => H j (by omega)))
theorem mz_fM {post : Int32 → Prop} {x2 : Int32} {p : Nat} (hp : p < 4) (k : post (-1)) : ∀ m n s : Nat, m ≤ 32 → m < n → (∀ j, j < m → P j < 4 ∧ sp j = nI (P j)) → (∀ i, s ≤ i → i < s + mz_cnt P p m → ¬ nI i = x2) → wY_findPair_10 post (nI p) x2 (nI D) (nI E) (nI N) (nI R) (nI ns) (nI wt) lm tg ei ec vq ve fp fe pe la ac sp si sv mk pt yo ya yb yc n (nI s) (nI m + (-1)) := by
  intro m
  induction m with
  | zero =>
    intro n s _ hn _ _
    obtain ⟨n, rfl⟩ : ∃ m, n = m + 1 := ⟨n - 1, by omega⟩
    exact mz_fz k
  | succ m ih =>
    intro n s hm hn H K
    obtain ⟨n, rfl⟩ : ∃ m, n = m + 1 := ⟨n - 1, by omega⟩
    obtain ⟨h4, hs⟩ := H m (by omega)
    by_cases c : P m = p
    · rw [mz_cnt_s c] at K
      have z : (nI m).toNatClampNeg = m := nI_clamp (by omega)
      have a : vp_in (nI m) 32 := vp_in_nI (by omega) (by omega)
      have e : sp m = nI p := by rw [hs, c]
      rw [pk_m1]
      refine br_f (nI_pos (by omega)) ⟨a, br_t (by rw [z]; exact e) (br_f (K s (Nat.le_refl s) (by omega)) ?_)⟩
      unfold wY_findPair_34
      exact ⟨a, br_t (by rw [z]; exact e) (nm_r (nI_1 s) (nm_e (ih n (s + 1) (by omega) (by omega) (fun j hj => H j (by omega)) (fun i h1 h2 => K i (by omega) (by omega)))))⟩
    · rw [mz_cnt_n c] at K
      exact mz_fs (by omega) (by rw [hs]; exact mz_ne (by omega) (by omega) c) (ih n s (by omega) (by omega) (fun j hj => H j (by omega)) K)
theorem mz_fH {post : Int32 → Prop} {p j q : Nat} (hp : p < 4) (hq : q < 2 ^ 31) (ej : P j = p) (k : post (nI j)) : ∀ m n s : Nat, m ≤ 32 → m < n → s ≤ q → j < m → (∀ j, j < m → P j < 4 ∧ sp j = nI (P j)) → mz_cnt P p j + (q - s) + 1 = mz_cnt P p m → wY_findPair_10 post (nI p) (nI q) (nI D) (nI E) (nI N) (nI R) (nI ns) (nI wt) lm tg ei ec vq ve fp fe pe la ac sp si sv mk pt yo ya yb yc n (nI s) (nI m + (-1)) := by
  intro m
  induction m with
  | zero =>
    intro n s _ hn _ hj _ _
    exact absurd hj (Nat.not_lt_zero j)
  | succ m ih =>
    intro n s hm hn hs hj H K
    obtain ⟨n, rfl⟩ : ∃ m, n = m + 1 := ⟨n - 1, by omega⟩
    obtain ⟨h4, hsp⟩ := H m (by omega)
    by_cases c : P m = p
    · rw [mz_cnt_s c] at K
      have z : (nI m).toNatClampNeg = m := nI_clamp (by omega)
      have a : vp_in (nI m) 32 := vp_in_nI (by omega) (by omega)
      have e : sp m = nI p := by rw [hsp, c]
      rw [pk_m1]
      by_cases es : s = q
      · subst es
        have ejm : j = m := by
          by_cases l : j < m
          · have := mz_cnt_lt l ej; omega
          · omega
        subst ejm
        exact br_f (nI_pos (by omega)) ⟨a, br_t (by rw [z]; exact e) (br_t rfl k)⟩
      · have l : j < m := by
          by_cases l : j = m
          · subst l; omega
          · omega
        refine br_f (nI_pos (by omega)) ⟨a, br_t (by rw [z]; exact e) (br_f (mz_ne (by omega) hq es) ?_)⟩
        unfold wY_findPair_34
        exact ⟨a, br_t (by rw [z]; exact e) (nm_r (nI_1 s) (nm_e (ih n (s + 1) (by omega) (by omega) (by omega) l (fun j hj => H j (by omega)) (by omega))))⟩
    · rw [mz_cnt_n c] at K
      have l : j < m := by
        by_cases l : j = m
        · subst l; exact absurd ej c
        · omega
      exact mz_fs (by omega) (by rw [hsp]; exact mz_ne (by omega) (by omega) c) (ih n s (by omega) (by omega) hs l (fun j hj => H j (by omega)) K)
theorem mz_fent {post : Int32 → Prop} {x1 x2 : Int32} (k : wY_findPair_10 post x1 x2 (nI D) (nI E) (nI N) (nI R) (nI ns) (nI wt) lm tg ei ec vq ve fp fe pe la ac sp si sv mk pt yo ya yb yc 33 0 (nI ns + (-1))) : wpY_findPair post (nI D, nI E, nI N, nI R, nI ns, nI wt, lm, tg, ei, ec, vq, ve, fp, fe, pe, la, ac, sp, si, sv, mk, pt, yo, ya, yb, yc) x1 x2 := by
  unfold wpY_findPair
  dsimp only
  exact nm_r (Int32.sub_eq_add_neg _ _) ⟨33, k⟩
theorem mz_gsp (G : mz_Nes N ns ac np nd sp si sv P I V) : ∀ j, j < ns → P j < 4 ∧ sp j = nI (P j) := fun j hj => ⟨(G.1 j hj).1, (G.1 j hj).2.2.2.1⟩
/-- no processor of that number -/
theorem mz_fp4 {post : Int32 → Prop} {x1 x2 : Int32} (G : mz_Nes N ns ac np nd sp si sv P I V) (h : x1 < 0 ∨ nI 4 ≤ x1) (k : post (-1)) : wpY_findPair post (nI D, nI E, nI N, nI R, nI ns, nI wt, lm, tg, ei, ec, vq, ve, fp, fe, pe, la, ac, sp, si, sv, mk, pt, yo, ya, yb, yc) x1 x2 := by
  refine mz_fent (mz_fN k ns 33 G.2.2.2 (by have := G.2.2.2; omega) (fun j hj => ?_))
  obtain ⟨h4, hs⟩ := mz_gsp G j hj
  rw [hs]
  intro e
  rcases h with h | h
  · rw [← e] at h
    exact nI_pos (by omega) h
  · rw [← e] at h
    exact nI_ge h4 (by omega) h
/-- below the nest's bottom -/
theorem mz_fp5 {post : Int32 → Prop} {p : Nat} {x2 : Int32} (G : mz_Nes N ns ac np nd sp si sv P I V) (hp : p < 4) (h : x2 < 0 ∨ nI (mz_cnt P p ns) ≤ x2) (k : post (-1)) : wpY_findPair post (nI D, nI E, nI N, nI R, nI ns, nI wt, lm, tg, ei, ec, vq, ve, fp, fe, pe, la, ac, sp, si, sv, mk, pt, yo, ya, yb, yc) (nI p) x2 := by
  have c := mz_c16 (p := p) G
  refine mz_fent (mz_fM hp k ns 33 0 G.2.2.2 (by have := G.2.2.2; omega) (mz_gsp G) (fun i _ hi e => ?_))
  rcases h with h | h
  · rw [← e] at h
    exact nI_pos (by omega) h
  · rw [← e] at h
    exact nI_ge (by omega) (by omega) h
theorem mz_fp6 {p q : Nat} (G : mz_Nes N ns ac np nd sp si sv P I V) (hp : p < 4) (h : q < mz_cnt P p ns) : ∃ j, j < ns ∧ P j = p ∧ mz_cnt P p j + q + 1 = mz_cnt P p ns ∧ ∀ post : Int32 → Prop, post (nI j) → wpY_findPair post (nI D, nI E, nI N, nI R, nI ns, nI wt, lm, tg, ei, ec, vq, ve, fp, fe, pe, la, ac, sp, si, sv, mk, pt, yo, ya, yb, yc) (nI p) (nI q) := by
  have c := mz_c16 (p := p) G
  obtain ⟨j, h1, h2, h3⟩ := mz_cnt_find (P := P) (p := p) (k := mz_cnt P p ns - 1 - q) ns (by omega)
  exact ⟨j, h1, h2, by omega, fun post k => mz_fent (mz_fH hp (by omega) h2 k ns 33 0 G.2.2.2 (by have := G.2.2.2; omega) (by omega) h1 (mz_gsp G) (by omega))⟩
/-! inNest -/
theorem mz_xin0 {post : Int32 → Prop} {i p : Nat} (G : mz_Nes N ns ac np nd sp si sv P I V) (hN : N ≤ 32) (hi : i < 32) (hp : p < 4) (H : ∀ j, j < ns → ¬ I j = i) (k : post 0) : ∀ d q n : Nat, q + d = mz_cnt P p ns → d < n → wX_inNest_16 post (nI i) (nI p) (nI D) (nI E) (nI N) (nI R) (nI hd) (nI wt) lm tg en wr ef pl ac np nd mk pt xo xa xb xc n (nI q) := by
  have c := mz_c16 (p := p) G
  have z : (nI p).toNatClampNeg = p := nI_clamp (by omega)
  have a : vp_in (nI p) 4 := vp_in_nI hp (by omega)
  intro d
  induction d with
  | zero =>
    intro q n hq hn
    obtain ⟨n, rfl⟩ : ∃ m, n = m + 1 := ⟨n - 1, by omega⟩
    exact ⟨a, br_t (by rw [z, mz_nd G hp]; exact nI_le (by omega) (by omega)) k⟩
  | succ d ih =>
    intro q n hq hn
    obtain ⟨n, rfl⟩ : ∃ m, n = m + 1 := ⟨n - 1, by omega⟩
    obtain ⟨j, h1, h2, h3, h4, h5, h6, h7⟩ := mz_npk (p := p) (k := q) G (by omega)
    refine ⟨a, br_f (by rw [z, mz_nd G hp]; exact nI_ge (by omega) (by omega)) ?_⟩
    rw [mz_a16, nI_clamp (n := 16 * p + q) (by omega), h6, mz_q16 (a := 16 * I j + V j) (t := I j) (by omega) (by omega)]
    exact ⟨vp_in_nI (by omega) (by omega), mz_d16, br_f (mz_ne (by omega) (by omega) (H j h1)) (nm_r (nI_1 q) (ih (q + 1) n (by omega) (by omega)))⟩
theorem mz_xin1 {post : Int32 → Prop} {j : Nat} (G : mz_Nes N ns ac np nd sp si sv P I V) (hN : N ≤ 32) (hj : j < ns) (k : post 1) : ∀ d q n : Nat, q + d = mz_cnt P (P j) j → d < n → wX_inNest_16 post (nI (I j)) (nI (P j)) (nI D) (nI E) (nI N) (nI R) (nI hd) (nI wt) lm tg en wr ef pl ac np nd mk pt xo xa xb xc n (nI q) := by
  have c := mz_c16 (p := P j) G
  have hp := (G.1 j hj).1
  have z : (nI (P j)).toNatClampNeg = P j := nI_clamp (by omega)
  have a : vp_in (nI (P j)) 4 := vp_in_nI hp (by omega)
  have l := mz_cnt_lt (P := P) (p := P j) hj rfl
  have iN := (G.1 j hj).2.1
  intro d
  induction d with
  | zero =>
    intro q n hq hn
    obtain ⟨n, rfl⟩ : ∃ m, n = m + 1 := ⟨n - 1, by omega⟩
    have h6 := (G.1 j hj).2.2.2.2.2.2.2.1
    have h7 := (G.1 j hj).2.2.1
    rw [show mz_cnt P (P j) j = q by omega] at h6
    refine ⟨a, br_f (by rw [z, mz_nd G hp]; exact nI_ge (by omega) (by omega)) ?_⟩
    rw [mz_a16, nI_clamp (n := 16 * P j + q) (by omega), h6, mz_q16 (a := 16 * I j + V j) (t := I j) (by omega) (by omega)]
    exact ⟨vp_in_nI (by omega) (by omega), mz_d16, br_t rfl k⟩
  | succ d ih =>
    intro q n hq hn
    obtain ⟨n, rfl⟩ : ∃ m, n = m + 1 := ⟨n - 1, by omega⟩
    obtain ⟨j', h1, h2, h3, h4, h5, h6, h7⟩ := mz_npk (p := P j) (k := q) G (by omega)
    refine ⟨a, br_f (by rw [z, mz_nd G hp]; exact nI_ge (by omega) (by omega)) ?_⟩
    rw [mz_a16, nI_clamp (n := 16 * P j + q) (by omega), h6, mz_q16 (a := 16 * I j' + V j') (t := I j') (by omega) (by omega)]
    exact ⟨vp_in_nI (by omega) (by omega), mz_d16, br_c (fun _ => k) (fun _ => nm_r (nI_1 q) (ih (q + 1) n (by omega) (by omega)))⟩
theorem mz_yin0 {post : Int32 → Prop} {i : Nat} (G : mz_Nes N ns ac np nd sp si sv P I V) (hN : N ≤ 32) (hi : i < 32) (H : ∀ j, j < ns → ¬ I j = i) (k : post 0) : ∀ d q n : Nat, q + d = ns → d < n → wY_inNest_2 post (nI i) (nI D) (nI E) (nI N) (nI R) (nI ns) (nI wt) lm tg ei ec vq ve fp fe pe la ac sp si sv mk pt yo ya yb yc n (nI q) := by
  have n32 := G.2.2.2
  intro d
  induction d with
  | zero =>
    intro q n hq hn
    obtain ⟨n, rfl⟩ : ∃ m, n = m + 1 := ⟨n - 1, by omega⟩
    exact br_t (nI_le (by omega) (by omega)) k
  | succ d ih =>
    intro q n hq hn
    obtain ⟨n, rfl⟩ : ∃ m, n = m + 1 := ⟨n - 1, by omega⟩
    have z : (nI q).toNatClampNeg = q := nI_clamp (by omega)
    obtain ⟨g1, g2, g3, g4, g5, _⟩ := G.1 q (by omega)
    exact br_f (nI_ge (by omega) (by omega)) ⟨vp_in_nI (by omega) (by omega), br_f (by rw [z, g5]; exact mz_ne (by omega) (by omega) (H q (by omega))) (nm_r (nI_1 q) (ih (q + 1) n (by omega) (by omega)))⟩
theorem mz_yin1 {post : Int32 → Prop} {j : Nat} (G : mz_Nes N ns ac np nd sp si sv P I V) (hj : j < ns) (k : post 1) : ∀ d q n : Nat, q + d = j → d < n → wY_inNest_2 post (nI (I j)) (nI D) (nI E) (nI N) (nI R) (nI ns) (nI wt) lm tg ei ec vq ve fp fe pe la ac sp si sv mk pt yo ya yb yc n (nI q) := by
  have n32 := G.2.2.2
  intro d
  induction d with
  | zero =>
    intro q n hq hn
    obtain ⟨n, rfl⟩ : ∃ m, n = m + 1 := ⟨n - 1, by omega⟩
    obtain rfl : q = j := by omega
    have z : (nI q).toNatClampNeg = q := nI_clamp (by omega)
    obtain ⟨g1, g2, g3, g4, g5, _⟩ := G.1 q (by omega)
    exact br_f (nI_ge (by omega) (by omega)) ⟨vp_in_nI (by omega) (by omega), br_t (by rw [z, g5]) k⟩
  | succ d ih =>
    intro q n hq hn
    obtain ⟨n, rfl⟩ : ∃ m, n = m + 1 := ⟨n - 1, by omega⟩
    exact br_f (nI_ge (by omega) (by omega)) ⟨vp_in_nI (by omega) (by omega), br_c (fun _ => k) (fun _ => nm_r (nI_1 q) (ih (q + 1) n (by omega) (by omega)))⟩
/-- both sides' question, whether i is in a nest -/
theorem mz_inN {i p : Nat} (G : mz_Nes N ns ac np nd sp si sv P I V) (hN : N ≤ 32) (hi : i < 32) (hp : p < 4) (e : ac i = nI p) : ∃ r : Int32, ((r = 0 ∧ ∀ j, j < ns → ¬ I j = i) ∨ r = 1)
    ∧ (∀ post : Int32 → Prop, post r → wpX_inNest post (nI D, nI E, nI N, nI R, nI hd, nI wt, lm, tg, en, wr, ef, pl, ac, np, nd, mk, pt, xo, xa, xb, xc) (nI i)) ∧ (∀ post : Int32 → Prop, post r → wpY_inNest post (nI D, nI E, nI N, nI R, nI ns, nI wt, lm, tg, ei, ec, vq, ve, fp, fe, pe, la, ac, sp, si, sv, mk, pt, yo, ya, yb, yc) (nI i)) := by
  have c := mz_c16 (p := p) G
  have n32 := G.2.2.2
  have z : (nI i).toNatClampNeg = i := nI_clamp (by omega)
  have a : vp_in (nI i) 32 := vp_in_nI hi (by omega)
  by_cases H : ∃ j, j < ns ∧ I j = i
  · obtain ⟨j, hj, rfl⟩ := H
    have e2 : P j = p := mz_inj (((G.1 j hj).2.2.2.2.2.2.1).symm.trans e) (by have := (G.1 j hj).1; omega) (by omega)
    subst e2
    have l := mz_cnt_lt (P := P) (p := P j) hj rfl
    refine ⟨1, Or.inr rfl, fun post k => ?_, fun post k => ?_⟩
    · unfold wpX_inNest
      dsimp only
      rw [z, e]
      exact ⟨a, nm_e (br_f (mz_nm1 (by omega)) ⟨17, mz_xin1 G hN hj k (mz_cnt P (P j) j) 0 17 (by omega) (by omega)⟩)⟩
    · unfold wpY_inNest
      dsimp only
      exact ⟨33, mz_yin1 G hj k j 0 33 (by omega) (by omega)⟩
  · have H' : ∀ j, j < ns → ¬ I j = i := fun j h1 h2 => H ⟨j, h1, h2⟩
    refine ⟨0, Or.inl ⟨rfl, H'⟩, fun post k => ?_, fun post k => ?_⟩
    · unfold wpX_inNest
      dsimp only
      rw [z, e]
      exact ⟨a, nm_e (br_f (mz_nm1 (by omega)) ⟨17, mz_xin0 G hN hi hp H' k (mz_cnt P p ns) 0 17 (by omega) (by omega)⟩)⟩
    · unfold wpY_inNest
      dsimp only
      exact ⟨33, mz_yin0 G hN hi H' k ns 0 33 (by omega) (by omega)⟩
end
end
section
/-! nest, interrupt, deactivate -/
theorem i_vc_nest {k : Nat} {u : SX} {v : SY} (I : i_Rel k u v) (hk : k + 5 ≤ 2564) (v1 : Int32) (v2 : Int32) : wpX_nest (fun r => wpY_nest (fun r' => r' = r ∧ i_Rel (k + 5) u v) v v1 v2) u v1 v2 := by
  refine mz_el (P := fun u v => wpX_nest (fun r => wpY_nest (fun r' => r' = r ∧ i_Rel (k + 5) u v) v v1 v2) u v1 v2) ?_ I
  intro D E N R hd wt ns lm tg en wr ef pl ac np nd mk pt xo xa xb xc ei ec vq ve fp fe pe la sp si sv yo ya yb yc F
  have J : i_Rel (k + 5) (nI D, nI E, nI N, nI R, nI hd, nI wt, lm, tg, en, wr, ef, pl, ac, np, nd, mk, pt, xo, xa, xb, xc) (nI D, nI E, nI N, nI R, nI ns, nI wt, lm, tg, ei, ec, vq, ve, fp, fe, pe, la, ac, sp, si, sv, mk, pt, yo, ya, yb, yc) := mz_in F
  revert J
  generalize i_Rel (k + 5) (nI D, nI E, nI N, nI R, nI hd, nI wt, lm, tg, en, wr, ef, pl, ac, np, nd, mk, pt, xo, xa, xb, xc) (nI D, nI E, nI N, nI R, nI ns, nI wt, lm, tg, ei, ec, vq, ve, fp, fe, pe, la, ac, sp, si, sv, mk, pt, yo, ya, yb, yc) = JJ
  intro J
  obtain ⟨⟨d1, d2, e1, e2, n1, n2, r1, r2⟩, T, C, A, ⟨P, I, V, G⟩, Q⟩ := F
  unfold wpX_nest wpY_nest
  dsimp only
  rcases pk_ix v1 (n := 4) (by omega) with h | h | ⟨p, hp, rfl⟩
  · exact mz_w0 (Or.inl h) (br_t rfl (mz_fp4 G (Or.inl h) (br_t rfl ⟨rfl, J⟩)))
  · exact mz_w0 (Or.inr h) (br_t rfl (mz_fp4 G (Or.inr h) (br_t rfl ⟨rfl, J⟩)))
  have a4 : vp_in (nI p) 4 := vp_in_nI hp (by omega)
  have n32 := G.2.2.2
  have c := mz_c16 (p := p) G
  refine mz_w1 4 hp (by omega) (br_f mz_10 ⟨a4, ?_⟩)
  rw [nI_clamp (n := p) (by omega), mz_nd G hp]
  rcases pk_ix v2 (n := mz_cnt P p ns) (by omega) with h | h | ⟨q, hq, rfl⟩
  · exact mz_w0 (Or.inl h) (br_t rfl (mz_fp5 G hp (Or.inl h) (br_t rfl ⟨rfl, J⟩)))
  · exact mz_w0 (Or.inr h) (br_t rfl (mz_fp5 G hp (Or.inr h) (br_t rfl ⟨rfl, J⟩)))
  obtain ⟨j, h1, h2, h3, hY⟩ := mz_fp6 (D := D) (E := E) (R := R) (wt := wt) (lm := lm) (tg := tg) (mk := mk) (pt := pt) (ei := ei) (ec := ec) (vq := vq) (ve := ve) (fp := fp) (fe := fe) (pe := pe) (la := la) (yo := yo) (ya := ya) (yb := yb) (yc := yc) G hp hq
  obtain ⟨g1, g2, g3, g4, g5, g6, g7, g8, g9⟩ := G.1 j h1
  rw [h2] at g8 g9
  rw [mz_a16, mz_sub1 (by omega), pk_sub (by omega), nI_clamp (n := 16 * p + mz_cnt P p ns - 1 - q) (by omega), show 16 * p + mz_cnt P p ns - 1 - q = 16 * p + mz_cnt P p j by omega, g8]
  refine mz_w1 (mz_cnt P p ns) hq (by omega) (br_f mz_10 ⟨a4, vp_in_nI (by omega) (by omega), ?_⟩)
  have a : vp_in (nI j) 32 := vp_in_nI (by omega) (by omega)
  refine hY _ (br_f (mz_nm1 (by omega)) ⟨a, a, ?_, J⟩)
  rw [nI_clamp (n := j) (by omega), g5, g6, mz_a16]
theorem i_vc_interrupt {k : Nat} {u : SX} {v : SY} (I : i_Rel k u v) (hk : k + 5 ≤ 2564) (v1 : Int32) (v2 : Int32) : wpX_interrupt (fun r => wpY_interrupt (fun r' => r' = r ∧ i_Rel (k + 5) u v) v v1 v2) u v1 v2 := by
  refine mz_el (P := fun u v => wpX_interrupt (fun r => wpY_interrupt (fun r' => r' = r ∧ i_Rel (k + 5) u v) v v1 v2) u v1 v2) ?_ I
  intro D E N R hd wt ns lm tg en wr ef pl ac np nd mk pt xo xa xb xc ei ec vq ve fp fe pe la sp si sv yo ya yb yc F
  have J : i_Rel (k + 5) (nI D, nI E, nI N, nI R, nI hd, nI wt, lm, tg, en, wr, ef, pl, ac, np, nd, mk, pt, xo, xa, xb, xc) (nI D, nI E, nI N, nI R, nI ns, nI wt, lm, tg, ei, ec, vq, ve, fp, fe, pe, la, ac, sp, si, sv, mk, pt, yo, ya, yb, yc) := mz_in F
  revert J
  generalize i_Rel (k + 5) (nI D, nI E, nI N, nI R, nI hd, nI wt, lm, tg, en, wr, ef, pl, ac, np, nd, mk, pt, xo, xa, xb, xc) (nI D, nI E, nI N, nI R, nI ns, nI wt, lm, tg, ei, ec, vq, ve, fp, fe, pe, la, ac, sp, si, sv, mk, pt, yo, ya, yb, yc) = JJ
  intro J
  obtain ⟨⟨d1, d2, e1, e2, n1, n2, r1, r2⟩, ⟨T1, T2, T3, T4, T5⟩, C, A, ⟨P, I, V, G⟩, Q⟩ := F
  unfold wpX_interrupt wpY_interrupt
  dsimp only
  rcases pk_ix v1 (n := N) (by omega) with h | h | ⟨i, hi, rfl⟩
  · exact mz_w0 (Or.inl h) (br_t rfl (br_t h ⟨rfl, J⟩))
  · exact mz_w0 (Or.inr h) (br_t rfl (br_f (mz_ge0 h (by omega)) (br_f (mz_nlt N h) ⟨rfl, J⟩)))
  have a : vp_in (nI i) 32 := vp_in_nI (by omega) (by omega)
  have i0 : ¬ nI i < 0 := nI_pos (by omega)
  have iN : nI i < nI N := nI_lt hi (by omega)
  refine mz_w1 N hi (by omega) (br_f mz_10 ?_)
  rcases pk_ix v2 (n := 4) (by omega) with h | h | ⟨j, hj, rfl⟩
  · exact br_t h (br_f i0 (br_t iN (br_f (mz_ngN h 0 (by omega)) (br_f (mz_ngN h 1 (by omega)) (br_f (mz_ngN h 2 (by omega)) (br_f (mz_ngN h 3 (by omega)) ⟨rfl, J⟩))))))
  · exact br_f (mz_ge0 h (by omega)) (br_t (mz_gt 3 4 h (by omega) (by omega)) (br_f i0 (br_t iN (br_f (mz_geN 4 h 0 (by omega) (by omega)) (br_f (mz_geN 4 h 1 (by omega) (by omega)) (br_f (mz_geN 4 h 2 (by omega) (by omega)) (br_f (mz_geN 4 h 3 (by omega) (by omega)) ⟨rfl, J⟩)))))))
  refine br_f (nI_pos (by omega)) (br_f (nI_nlt (a := 3) (by omega) (by omega)) ?_)
  rw [nI_clamp (n := i) (by omega)]
  have c : j = 0 ∨ j = 1 ∨ j = 2 ∨ j = 3 := by omega
  rcases c with rfl | rfl | rfl | rfl
  · refine br_t rfl ⟨a, br_f i0 (br_t iN (br_t rfl ⟨a, ?_⟩))⟩
    rcases T5 i with ⟨b1, b2⟩ | ⟨q, hq, b2, ⟨b1, b3⟩ | ⟨b1, b3⟩⟩
    · exact br_t b2 ⟨a, by rw [b1, b2], J⟩
    · exact br_f (by rw [b2]; exact mz_nm1 (by omega)) ⟨a, br_t b3 ⟨a, by rw [b1, b2], J⟩⟩
    · exact br_f (by rw [b2]; exact mz_nm1 (by omega)) ⟨a, br_f (by rw [b3]; exact mz_10) ⟨a, by rw [b1, b2, mz_p4], J⟩⟩
  · refine br_f (by decide) (br_t rfl ?_)
    unfold wpX_activity
    dsimp only
    rw [nI_clamp (n := i) (by omega)]
    rcases A i with e | ⟨p, hp, e⟩
    · exact ⟨a, br_t e ⟨a, br_f i0 (br_t iN (br_f (by decide) (br_t rfl ⟨a, br_t e ⟨a, rfl, J⟩⟩)))⟩⟩
    · have e' : ¬ ac i = -1 := by rw [e]; exact mz_nm1 (by omega)
      obtain ⟨r, hr, hX, hY⟩ := mz_inN (D := D) (E := E) (R := R) (hd := hd) (wt := wt) (lm := lm) (tg := tg) (en := en) (wr := wr) (ef := ef) (pl := pl) (mk := mk) (pt := pt) (xo := xo) (xa := xa) (xb := xb) (xc := xc) (ei := ei) (ec := ec) (vq := vq) (ve := ve) (fp := fp) (fe := fe) (pe := pe) (la := la) (yo := yo) (ya := ya) (yb := yb) (yc := yc) G n2 (by omega) hp e
      refine ⟨a, br_f e' (hX _ ?_)⟩
      rcases hr with ⟨rfl, _⟩ | rfl
      · exact br_t rfl ⟨a, br_f i0 (br_t iN (br_f (by decide) (br_t rfl ⟨a, br_f e' (hY _ (br_t rfl ⟨a, rfl, J⟩))⟩)))⟩
      · exact br_f mz_10 ⟨a, br_f i0 (br_t iN (br_f (by decide) (br_t rfl ⟨a, br_f e' (hY _ (br_f mz_10 ⟨a, rfl, J⟩))⟩)))⟩
  · refine br_f (by decide) (br_f (by decide) (br_t rfl ⟨a, br_f i0 (br_t iN (br_f (by decide) (br_f (by decide) (br_t rfl ⟨a, a, ?_, J⟩))))⟩))
    obtain ⟨q, b, hq, hb, g1, g2, g3⟩ := C i
    rw [g1, g2, g3, mz_b16]
  · refine br_f (by decide) (br_f (by decide) (br_f (by decide) (br_t rfl ⟨a, br_f i0 (br_t iN (br_f (by decide) (br_f (by decide) (br_f (by decide) (br_t rfl ⟨a, a, ?_, J⟩)))))⟩)))
    obtain ⟨q, b, hq, hb, g1, g2, g3⟩ := T4 i
    rw [g1, g2, g3, mz_b16]
theorem mz_nesA {N ns i : Nat} {x : Int32} {ac np nd sp si sv : Nat → Int32} {P I V : Nat → Nat} (G : mz_Nes N ns ac np nd sp si sv P I V) (H : ∀ j, j < ns → ¬ I j = i) : mz_Nes N ns (upd ac i x) np nd sp si sv P I V := by
  refine ⟨fun j hj => ?_, G.2⟩
  obtain ⟨g1, g2, g3, g4, g5, g6, g7, g8, g9⟩ := G.1 j hj
  refine ⟨g1, g2, g3, g4, g5, g6, ?_, g8, g9⟩
  rw [pk_un (H j hj)]
  exact g7
theorem i_vc_deactivate {k : Nat} {u : SX} {v : SY} (I : i_Rel k u v) (hk : k + 5 ≤ 2564) (v1 : Int32) : wpX_deactivate (fun r u' => wpY_deactivate (fun r' v' => r' = r ∧ i_Rel (k + 5) u' v') v v1) u v1 := by
  refine mz_el (P := fun u v => wpX_deactivate (fun r u' => wpY_deactivate (fun r' v' => r' = r ∧ i_Rel (k + 5) u' v') v v1) u v1) ?_ I
  intro D E N R hd wt ns lm tg en wr ef pl ac np nd mk pt xo xa xb xc ei ec vq ve fp fe pe la sp si sv yo ya yb yc F
  have J : i_Rel (k + 5) (nI D, nI E, nI N, nI R, nI hd, nI wt, lm, tg, en, wr, ef, pl, ac, np, nd, mk, pt, xo, xa, xb, xc) (nI D, nI E, nI N, nI R, nI ns, nI wt, lm, tg, ei, ec, vq, ve, fp, fe, pe, la, ac, sp, si, sv, mk, pt, yo, ya, yb, yc) := mz_in F
  obtain ⟨⟨d1, d2, e1, e2, n1, n2, r1, r2⟩, T, C, A, ⟨P, I, V, G⟩, Q⟩ := F
  unfold wpX_deactivate wpY_deactivate
  dsimp only
  rcases pk_ix v1 (n := N) (by omega) with h | h | ⟨i, hi, rfl⟩
  · exact mz_w0 (Or.inl h) (br_t rfl (br_t h ⟨rfl, J⟩))
  · exact mz_w0 (Or.inr h) (br_t rfl (br_f (mz_ge0 h (by omega)) (br_f (mz_nlt N h) ⟨rfl, J⟩)))
  have a : vp_in (nI i) 32 := vp_in_nI (by omega) (by omega)
  have i0 : ¬ nI i < 0 := nI_pos (by omega)
  have iN : nI i < nI N := nI_lt hi (by omega)
  refine mz_w1 N hi (by omega) (br_f mz_10 ?_)
  rw [nI_clamp (n := i) (by omega)]
  rcases A i with e | ⟨p, hp, e⟩
  · exact ⟨a, br_t e (br_f i0 (br_t iN ⟨a, br_t e ⟨rfl, J⟩⟩))⟩
  · have e' : ¬ ac i = -1 := by rw [e]; exact mz_nm1 (by omega)
    obtain ⟨r, hr, hX, hY⟩ := mz_inN (D := D) (E := E) (R := R) (hd := hd) (wt := wt) (lm := lm) (tg := tg) (en := en) (wr := wr) (ef := ef) (pl := pl) (mk := mk) (pt := pt) (xo := xo) (xa := xa) (xb := xb) (xc := xc) (ei := ei) (ec := ec) (vq := vq) (ve := ve) (fp := fp) (fe := fe) (pe := pe) (la := la) (yo := yo) (ya := ya) (yb := yb) (yc := yc) G n2 (by omega) hp e
    refine ⟨a, br_f e' (hX _ ?_)⟩
    rcases hr with ⟨rfl, H⟩ | rfl
    · have K : i_Rel (k + 5) (nI D, nI E, nI N, nI R, nI hd, nI wt, lm, tg, en, wr, ef, pl, upd ac i (-1), np, nd, mk, pt, xo, xa, xb, xc) (nI D, nI E, nI N, nI R, nI ns, nI wt, lm, tg, ei, ec, vq, ve, fp, fe, pe, la, upd ac i (-1), sp, si, sv, mk, pt, yo, ya, yb, yc) :=
        mz_in ⟨⟨d1, d2, e1, e2, n1, n2, r1, r2⟩, T, C, mz_up1 A (Or.inl rfl), ⟨P, I, V, mz_nesA G H⟩, Q⟩
      exact br_t rfl ⟨a, nm_e (br_f i0 (br_t iN ⟨a, br_f e' (hY _ (br_t rfl ⟨a, nm_e ⟨rfl, K⟩⟩))⟩))⟩
    · exact br_f mz_10 (br_f i0 (br_t iN ⟨a, br_f e' (hY _ (br_f mz_10 ⟨rfl, J⟩))⟩))
end
section
/-! deliver, drop -/
section
variable {D E N R hd wt ns : Nat} {lm tg en wr ef pl ac np nd mk pt xo xa xb xc ei ec vq ve fp fe pe la sp si sv yo ya yb yc : Nat → Int32}
theorem mz_dlv (hN : N ≤ 32) {p : Nat} (hp : p < 4) : ∀ (d i : Nat) (c : Int32) (pl la : Nat → Int32), i + d = N → (∀ k, mz_PlR (pl k) (pe k) (la k)) → ∃ (c' : Int32) (pl' la' : Nat → Int32), (∀ k, mz_PlR (pl' k) (pe k) (la' k))
    ∧ (∀ (post : Int32 → SX → Prop) (n : Nat), d < n → post c' (nI D, nI E, nI N, nI R, nI hd, nI wt, lm, tg, en, wr, ef, pl', ac, np, nd, mk, pt, xo, xa, xb, xc) → wX_deliver_15 post (nI p) (nI D) (nI E) (nI N) (nI R) (nI hd) (nI wt) n c (nI i) lm tg en wr ef pl ac np nd mk pt xo xa xb xc)
    ∧ (∀ (post : Int32 → SY → Prop) (n : Nat), d < n → post c' (nI D, nI E, nI N, nI R, nI ns, nI wt, lm, tg, ei, ec, vq, ve, fp, fe, pe, la', ac, sp, si, sv, mk, pt, yo, ya, yb, yc) → wY_deliver_15 post (nI p) (nI D) (nI E) (nI N) (nI R) (nI ns) (nI wt) n c (nI i) lm tg ei ec vq ve fp fe pe la ac sp si sv mk pt yo ya yb yc) := by
  intro d
  induction d with
  | zero =>
    intro i c pl la hi T
    refine ⟨c, pl, la, T, fun post n hn h => ?_, fun post n hn h => ?_⟩
    · obtain ⟨n, rfl⟩ : ∃ m, n = m + 1 := ⟨n - 1, by omega⟩
      exact br_t (nI_le (by omega) (by omega)) h
    · obtain ⟨n, rfl⟩ : ∃ m, n = m + 1 := ⟨n - 1, by omega⟩
      exact br_t (nI_le (by omega) (by omega)) h
  | succ d ih =>
    intro i c pl la hi T
    have a : vp_in (nI i) 32 := vp_in_nI (by omega) (by omega)
    have g : ¬ nI N ≤ nI i := nI_ge (by omega) (by omega)
    have z : (nI i).toNatClampNeg = i := nI_clamp (by omega)
    by_cases H : pe i = nI p ∧ la i = 0
    · have x1 : pl i = nI p := by
        rcases T i with ⟨b1, b2⟩ | ⟨q, hq, b2, ⟨b1, b3⟩ | ⟨b1, b3⟩⟩
        · rw [H.1] at b2; exact absurd b2 (mz_nm1 (by omega))
        · rw [b1, ← b2]; exact H.1
        · rw [H.2] at b3; exact absurd b3 (by decide)
      obtain ⟨c', pl', la', T', hX, hY⟩ := ih (i + 1) (c + 1) (upd pl i (nI (4 + p))) (upd la i 1) (by omega) (mz_up13 T (Or.inr ⟨p, hp, H.1, Or.inr ⟨rfl, rfl⟩⟩))
      refine ⟨c', pl', la', T', fun post n hn h => ?_, fun post n hn h => ?_⟩
      · obtain ⟨n, rfl⟩ : ∃ m, n = m + 1 := ⟨n - 1, by omega⟩
        exact br_f g ⟨a, br_t (by rw [z]; exact x1) (mz_st i rfl (by omega) (mz_p4 p) (nm_e (nm_r (nI_1 i) (hX post n (by omega) h))))⟩
      · obtain ⟨n, rfl⟩ : ∃ m, n = m + 1 := ⟨n - 1, by omega⟩
        exact br_f g ⟨a, br_t (by rw [z]; exact H.1) ⟨a, br_t (by rw [z]; exact H.2) (mz_st i rfl (by omega) mz_nb1 (nm_e (nm_r (nI_1 i) (hY post n (by omega) h))))⟩⟩
    · obtain ⟨c', pl', la', T', hX, hY⟩ := ih (i + 1) c pl la (by omega) T
      have x1 : ¬ pl i = nI p := by
        rcases T i with ⟨b1, b2⟩ | ⟨q, hq, b2, ⟨b1, b3⟩ | ⟨b1, b3⟩⟩
        · rw [b1]; exact mz_m1n (by omega)
        · intro e
          exact H ⟨by rw [b2, ← b1]; exact e, b3⟩
        · rw [b1]; exact mz_ne (by omega) (by omega) (by omega)
      refine ⟨c', pl', la', T', fun post n hn h => ?_, fun post n hn h => ?_⟩
      · obtain ⟨n, rfl⟩ : ∃ m, n = m + 1 := ⟨n - 1, by omega⟩
        exact br_f g ⟨a, br_f (by rw [z]; exact x1) (nm_r (nI_1 i) (hX post n (by omega) h))⟩
      · obtain ⟨n, rfl⟩ : ∃ m, n = m + 1 := ⟨n - 1, by omega⟩
        refine br_f g ⟨a, br_c (fun e => ⟨a, br_f (fun f => H ⟨by rw [z] at e; exact e, by rw [z] at f; exact f⟩) (nm_r (nI_1 i) (hY post n (by omega) h))⟩) (fun _ => nm_r (nI_1 i) (hY post n (by omega) h))⟩
theorem mz_y29 {post : Int32 → SY → Prop} {t : Nat} (hn32 : ns ≤ 32) (h : post 1 (nI D, nI E, nI N, nI R, nI (ns - 1), nI wt, lm, tg, ei, ec, vq, ve, fp, fe, pe, la, ac, mz_sh sp t (ns - 1), mz_sh si t (ns - 1), mz_sh sv t (ns - 1), mk, pt, yo, ya, yb, yc)) : ∀ d j n : Nat, t ≤ j → j + 1 + d = ns → d < n → wY_drop_29 post (nI D) (nI E) (nI N) (nI R) (nI ns) (nI wt) n (nI j) lm tg ei ec vq ve fp fe pe la ac (mz_sh sp t j) (mz_sh si t j) (mz_sh sv t j) mk pt yo ya yb yc := by
  intro d
  induction d with
  | zero =>
    intro j n ht hj hn
    obtain ⟨n, rfl⟩ : ∃ m, n = m + 1 := ⟨n - 1, by omega⟩
    obtain rfl : j = ns - 1 := by omega
    exact br_t (by rw [nI_1]; exact nI_le (by omega) (by omega)) (nm_r (mz_sub1 (by omega)) h)
  | succ d ih =>
    intro j n ht hj hn
    obtain ⟨n, rfl⟩ : ∃ m, n = m + 1 := ⟨n - 1, by omega⟩
    rw [wY_drop_29]
    dsimp only
    rw [nI_1 j]
    have a1 : vp_in (nI (j + 1)) 32 := vp_in_nI (by omega) (by omega)
    refine br_f (nI_ge (by omega) (by omega)) ⟨a1, mz_st j rfl (by omega) (mz_shr sp t j (by omega)) ⟨a1, mz_st j rfl (by omega) (mz_shr si t j (by omega)) ⟨a1, mz_st j rfl (by omega) (mz_shr sv t j (by omega)) (nm_e ?_)⟩⟩⟩
    rw [mz_shu sp t j ht, mz_shu si t j ht, mz_shu sv t j ht]
    exact ih (j + 1) n (by omega) (by omega) (by omega)
end
theorem i_vc_deliver {k : Nat} {u : SX} {v : SY} (I : i_Rel k u v) (hk : k + 5 ≤ 2564) (v1 : Int32) : wpX_deliver (fun r u' => wpY_deliver (fun r' v' => r' = r ∧ i_Rel (k + 5) u' v') v v1) u v1 := by
  refine mz_el (P := fun u v => wpX_deliver (fun r u' => wpY_deliver (fun r' v' => r' = r ∧ i_Rel (k + 5) u' v') v v1) u v1) ?_ I
  intro D E N R hd wt ns lm tg en wr ef pl ac np nd mk pt xo xa xb xc ei ec vq ve fp fe pe la sp si sv yo ya yb yc F
  have J : i_Rel (k + 5) (nI D, nI E, nI N, nI R, nI hd, nI wt, lm, tg, en, wr, ef, pl, ac, np, nd, mk, pt, xo, xa, xb, xc) (nI D, nI E, nI N, nI R, nI ns, nI wt, lm, tg, ei, ec, vq, ve, fp, fe, pe, la, ac, sp, si, sv, mk, pt, yo, ya, yb, yc) := mz_in F
  obtain ⟨⟨d1, d2, e1, e2, n1, n2, r1, r2⟩, ⟨T1, T2, T3, T4, T5⟩, C, A, G, Q⟩ := F
  unfold wpX_deliver wpY_deliver
  dsimp only
  rcases pk_ix v1 (n := 4) (by omega) with h | h | ⟨p, hp, rfl⟩
  · exact mz_w0 (Or.inl h) (br_t rfl (br_t h ⟨rfl, J⟩))
  · exact mz_w0 (Or.inr h) (br_t rfl (br_f (mz_ge0 h (by omega)) (br_f (mz_gtl 3 4 h (by omega) (by omega)) ⟨rfl, J⟩)))
  obtain ⟨c', pl', la', T', hX, hY⟩ := mz_dlv (D := D) (E := E) (N := N) (R := R) (hd := hd) (wt := wt) (lm := lm) (tg := tg) (en := en) (wr := wr) (ef := ef) (ac := ac) (np := np) (nd := nd) (mk := mk) (pt := pt) (xo := xo) (xa := xa) (xb := xb) (xc := xc) (ns := ns) (ei := ei) (ec := ec) (vq := vq) (ve := ve) (fp := fp) (fe := fe) (sp := sp) (si := si) (sv := sv) (yo := yo) (ya := ya) (yb := yb) (yc := yc) n2 hp N 0 0 pl la (by omega) T5
  have K : i_Rel (k + 5) (nI D, nI E, nI N, nI R, nI hd, nI wt, lm, tg, en, wr, ef, pl', ac, np, nd, mk, pt, xo, xa, xb, xc) (nI D, nI E, nI N, nI R, nI ns, nI wt, lm, tg, ei, ec, vq, ve, fp, fe, pe, la', ac, sp, si, sv, mk, pt, yo, ya, yb, yc) := mz_in ⟨⟨d1, d2, e1, e2, n1, n2, r1, r2⟩, ⟨T1, T2, T3, T4, T'⟩, C, A, G, Q⟩
  exact mz_w1 4 hp (by omega) (br_f mz_10 ⟨N + 1, hX _ (N + 1) (by omega) (br_f (nI_pos (by omega)) (br_t (nI_le (b := 3) (by omega) (by omega)) ⟨N + 1, hY _ (N + 1) (by omega) ⟨rfl, K⟩⟩))⟩)
/-! taking one pair away -/
def mz_rm (P : Nat → Nat) (t : Nat) : Nat → Nat := fun i => if i < t then P i else P (i + 1)
theorem mz_rml {P : Nat → Nat} {t i : Nat} (h : i < t) : mz_rm P t i = P i := if_pos h
theorem mz_rmg {P : Nat → Nat} {t i : Nat} (h : t ≤ i) : mz_rm P t i = P (i + 1) := if_neg (by omega)
theorem mz_cnt_rm {P : Nat → Nat} {p t : Nat} : ∀ i, t ≤ i → mz_cnt (mz_rm P t) p i + (if P t = p then 1 else 0) = mz_cnt P p (i + 1) := by
  have base : mz_cnt (mz_rm P t) p t + (if P t = p then 1 else 0) = mz_cnt P p (t + 1) := by
    rw [mz_cnt_ext (P := P) t (fun i hi => mz_rml hi)]
    rfl
  intro i
  induction i with
  | zero =>
    intro h
    obtain rfl : t = 0 := by omega
    exact base
  | succ i ih =>
    intro h
    by_cases e : t = i + 1
    · subst e; exact base
    · have l := ih (by omega)
      have r := mz_rmg (P := P) (t := t) (i := i) (by omega)
      show mz_cnt (mz_rm P t) p i + (if mz_rm P t i = p then 1 else 0) + (if P t = p then 1 else 0) = mz_cnt P p (i + 1) + (if P (i + 1) = p then 1 else 0)
      rw [r, ← l]
      omega
theorem mz_nesD {N ns j p : Nat} {ac np nd sp si sv : Nat → Int32} {P I V : Nat → Nat} (G : mz_Nes N ns ac np nd sp si sv P I V) (hj : j < ns) (ej : P j = p) (ec : mz_cnt P p j + 1 = mz_cnt P p ns) :
    mz_Nes N (ns - 1) ac np (upd nd p (nI (mz_cnt P p ns - 1))) (mz_sh sp j (ns - 1)) (mz_sh si j (ns - 1)) (mz_sh sv j (ns - 1)) (mz_rm P j) (mz_rm I j) (mz_rm V j) := by
  refine ⟨fun i hi => ?_, fun q hq => ?_, fun i i' h1 h2 => ?_, by have := G.2.2.2; omega⟩
  · by_cases l : i < j
    · rw [mz_rml l, mz_rml l, mz_rml l, mz_shl sp l, mz_shl si l, mz_shl sv l, mz_cnt_ext (P := P) i (fun i' hi' => mz_rml (by omega))]
      exact G.1 i (by omega)
    · have l' : j ≤ i := by omega
      rw [mz_rmg l', mz_rmg l', mz_rmg l', mz_shi sp l' hi, mz_shi si l' hi, mz_shi sv l' hi]
      have ne : ¬ P (i + 1) = p := by
        intro e
        have c1 := mz_cnt_lt (P := P) (p := p) (show j < i + 1 by omega) ej
        have c2 := mz_cnt_lt (P := P) (p := p) (show i + 1 < ns by omega) e
        omega
      have cr := mz_cnt_rm (P := P) (p := P (i + 1)) (t := j) i l'
      rw [if_neg (by rw [ej]; exact fun e => ne e.symm), Nat.add_zero] at cr
      rw [cr]
      exact G.1 (i + 1) (by omega)
  · have cr := mz_cnt_rm (P := P) (p := q) (t := j) (ns - 1) (by omega)
    rw [show ns - 1 + 1 = ns by omega] at cr
    by_cases e : q = p
    · subst e
      rw [if_pos ej] at cr
      rw [pk_us]
      exact congrArg nI (by omega)
    · rw [if_neg (by rw [ej]; exact fun z => e z.symm), Nat.add_zero] at cr
      rw [pk_un e, cr]
      exact G.2.1 q hq
  · have f := G.2.2.1
    by_cases l : i < j
    · rw [mz_rml l]
      by_cases l2 : i' < j
      · rw [mz_rml l2]; exact f i i' h1 (by omega)
      · rw [mz_rmg (by omega)]; exact f i (i' + 1) (by omega) (by omega)
    · rw [mz_rmg (by omega), mz_rmg (by omega)]; exact f (i + 1) (i' + 1) (by omega) (by omega)
theorem i_vc_drop {k : Nat} {u : SX} {v : SY} (I : i_Rel k u v) (hk : k + 5 ≤ 2564) (v1 : Int32) (v2 : Int32) : wpX_drop (fun r u' => wpY_drop (fun r' v' => r' = r ∧ i_Rel (k + 5) u' v') v v1 v2) u v1 v2 := by
  refine mz_el (P := fun u v => wpX_drop (fun r u' => wpY_drop (fun r' v' => r' = r ∧ i_Rel (k + 5) u' v') v v1 v2) u v1 v2) ?_ I
  intro D E N R hd wt ns lm tg en wr ef pl ac np nd mk pt xo xa xb xc ei ec vq ve fp fe pe la sp si sv yo ya yb yc F
  have J : i_Rel (k + 5) (nI D, nI E, nI N, nI R, nI hd, nI wt, lm, tg, en, wr, ef, pl, ac, np, nd, mk, pt, xo, xa, xb, xc) (nI D, nI E, nI N, nI R, nI ns, nI wt, lm, tg, ei, ec, vq, ve, fp, fe, pe, la, ac, sp, si, sv, mk, pt, yo, ya, yb, yc) := mz_in F
  obtain ⟨⟨d1, d2, e1, e2, n1, n2, r1, r2⟩, T, C, A, ⟨P, I, V, G⟩, Q⟩ := F
  unfold wpX_drop wpY_drop
  dsimp only
  rcases pk_ix v1 (n := 4) (by omega) with h | h | ⟨p, hp, rfl⟩
  · exact mz_w0 (Or.inl h) (br_t rfl (mz_fp4 G (Or.inl h) (br_t rfl ⟨rfl, J⟩)))
  · exact mz_w0 (Or.inr h) (br_t rfl (mz_fp4 G (Or.inr h) (br_t rfl ⟨rfl, J⟩)))
  have a4 : vp_in (nI p) 4 := vp_in_nI hp (by omega)
  have n32 := G.2.2.2
  have c := mz_c16 (p := p) G
  refine mz_w1 4 hp (by omega) (br_f mz_10 ⟨a4, ?_⟩)
  rw [nI_clamp (n := p) (by omega), mz_nd G hp]
  by_cases c0 : mz_cnt P p ns = 0
  · refine br_t (by rw [c0]; rfl) ?_
    exact mz_fp5 G hp (Or.inr (by rw [c0]; decide)) (br_t rfl ⟨rfl, J⟩)
  obtain ⟨j, h1, h2, h3, hY⟩ := mz_fp6 (D := D) (E := E) (R := R) (wt := wt) (lm := lm) (tg := tg) (mk := mk) (pt := pt) (ei := ei) (ec := ec) (vq := vq) (ve := ve) (fp := fp) (fe := fe) (pe := pe) (la := la) (yo := yo) (ya := ya) (yb := yb) (yc := yc) G hp (show 0 < mz_cnt P p ns by omega)
  obtain ⟨g1, g2, g3, g4, g5, g6, g7, g8, g9⟩ := G.1 j h1
  rw [h2] at g8 g9
  refine br_f (nI_ne0 (by omega) (by omega)) ⟨a4, ?_⟩
  rw [mz_a16, mz_sub1 (a := 16 * p + mz_cnt P p ns) (by omega), nI_clamp (n := 16 * p + mz_cnt P p ns - 1) (by omega), show 16 * p + mz_cnt P p ns - 1 = 16 * p + mz_cnt P p j by omega]
  refine ⟨vp_in_nI (by omega) (by omega), nm_r g8 ⟨mz_d16, ?_⟩⟩
  rw [mz_q16 (a := 16 * I j + V j) (t := I j) (by omega) (by omega)]
  have a : vp_in (nI j) 32 := vp_in_nI (by omega) (by omega)
  have zj : (nI j).toNatClampNeg = j := nI_clamp (by omega)
  by_cases e : nI (I j) = v2
  · have K : i_Rel (k + 5) (nI D, nI E, nI N, nI R, nI hd, nI wt, lm, tg, en, wr, ef, pl, ac, np, upd nd p (nI (mz_cnt P p ns - 1)), mk, pt, xo, xa, xb, xc) (nI D, nI E, nI N, nI R, nI (ns - 1), nI wt, lm, tg, ei, ec, vq, ve, fp, fe, pe, la, ac, mz_sh sp j (ns - 1), mz_sh si j (ns - 1), mz_sh sv j (ns - 1), mk, pt, yo, ya, yb, yc) :=
      mz_in ⟨⟨d1, d2, e1, e2, n1, n2, r1, r2⟩, T, C, A, ⟨mz_rm P j, mz_rm I j, mz_rm V j, mz_nesD G h1 h2 (by omega)⟩, Q⟩
    refine br_t e ⟨a4, a4, nm_r (by rw [mz_sub1 (by omega)]) ?_⟩
    refine hY _ (br_f (mz_nm1 (by omega)) ⟨a, br_t (by rw [zj, g5]; exact e) ⟨33, ?_⟩⟩)
    have z := mz_y29 (post := fun r' v' => r' = 1 ∧ i_Rel (k + 5) (nI D, nI E, nI N, nI R, nI hd, nI wt, lm, tg, en, wr, ef, pl, ac, np, upd nd p (nI (mz_cnt P p ns - 1)), mk, pt, xo, xa, xb, xc) v') (t := j) n32 ⟨rfl, K⟩ (ns - 1 - j) j 33 (by omega) (by omega) (by omega)
    rw [mz_sh0, mz_sh0, mz_sh0] at z
    exact z
  · refine br_f e (hY _ (br_f (mz_nm1 (by omega)) ⟨a, br_f (by rw [zj, g5]; exact e) ⟨rfl, J⟩⟩))
end
section
/-! highest -/
theorem mz_shm {a b : Nat} (s : Int32) (h : a ≤ b) (hb : b < 2 ^ 31) : nI a >>> s ≤ nI b >>> s := by
  rw [pk_shrN (by omega) s _ rfl, pk_shrN hb s _ rfl]
  exact nI_le (Nat.div_le_div_right h) (Nat.lt_of_le_of_lt (Nat.div_le_self _ _) hb)
def mz_Cd (p : Nat) (pe la fe ac : Nat → Int32) (i : Nat) : Prop := pe i = nI p ∧ la i = 1 ∧ fe i = 1 ∧ ac i = -1
def mz_Bst (p : Nat) (fp pe la fe ac : Nat → Int32) (m : Nat) (x : Int32) : Prop :=
  (x = -1 ∧ ∀ i, i < m → ¬ mz_Cd p pe la fe ac i)
  ∨ ∃ b v : Nat, b < m ∧ x = nI b ∧ mz_Cd p pe la fe ac b ∧ v < 16 ∧ fp b = nI v ∧ (∀ i w : Nat, i < m → mz_Cd p pe la fe ac i → fp i = nI w → w < 16 → v ≤ w) ∧ (∀ i w : Nat, i < b → mz_Cd p pe la fe ac i → fp i = nI w → w < 16 → v < w)
section
variable {D E N R hd wt ns : Nat} {lm tg en wr ef pl ac np nd mk pt xo xa xb xc ei ec vq ve fp fe pe la sp si sv yo ya yb yc : Nat → Int32}
theorem mz_cdX {p i : Nat} (hp : p < 4) (T5 : mz_PlR (pl i) (pe i) (la i)) (T4 : mz_CfR (ef i) (fp i) (fe i)) : mz_Cd p pe la fe ac i ↔ (pl i = nI (4 + p) ∧ ¬ ef i < 16 ∧ ac i = -1) := by
  obtain ⟨q, b, hq, hb, g1, g2, g3⟩ := T4
  have f1 : fe i = 1 ↔ ¬ ef i < 16 := by
    rw [g2, g3]
    constructor
    · intro e
      have e' : b = 1 := mz_inj (a := b) (b := 1) e
      subst e'
      exact nI_nlt (b := 16) (by omega) (by omega)
    · intro e
      have e' : b = 1 := by
        by_cases z : b = 0
        · subst z
          exact absurd (nI_lt (a := q + 16 * 0) (b := 16) (by omega) (by omega)) e
        · omega
      rw [e']
      rfl
  have f2 : (pe i = nI p ∧ la i = 1) ↔ pl i = nI (4 + p) := by
    rcases T5 with ⟨b1, b2⟩ | ⟨s, hs, b2, ⟨b1, b3⟩ | ⟨b1, b3⟩⟩
    · constructor
      · intro e
        rw [e.1] at b2
        exact absurd b2 (mz_nm1 (by omega))
      · intro e
        rw [e] at b1
        exact absurd b1 (mz_nm1 (by omega))
    · constructor
      · intro e
        rw [e.2] at b3
        exact absurd b3 (by decide)
      · intro e
        rw [b1] at e
        have := mz_inj e
        omega
    · constructor
      · intro e
        have e' : s = p := mz_inj (b2.symm.trans e.1)
        rw [b1, e']
      · intro e
        have e' : 4 + s = 4 + p := mz_inj (b1.symm.trans e)
        have e2 : s = p := by omega
        rw [b2, e2]
        exact ⟨rfl, b3⟩
  unfold mz_Cd
  constructor
  · intro h
    exact ⟨f2.mp ⟨h.1, h.2.1⟩, f1.mp h.2.2.1, h.2.2.2⟩
  · intro h
    exact ⟨(f2.mpr h.1).1, (f2.mpr h.1).2, f1.mpr h.2.1, h.2.2⟩
theorem mz_bc0 {post : Int32 → Prop} {p i n : Nat} {x2 : Int32} (hN : N ≤ 32) (hi : i < N) (h : ¬ (pl i = nI (4 + p) ∧ ¬ ef i < 16 ∧ ac i = -1)) (k : wX_bestCandidate_4 post (nI p) (nI D) (nI E) (nI N) (nI R) (nI hd) (nI wt) lm tg en wr ef pl ac np nd mk pt xo xa xb xc n x2 (nI (i + 1))) : wX_bestCandidate_4 post (nI p) (nI D) (nI E) (nI N) (nI R) (nI hd) (nI wt) lm tg en wr ef pl ac np nd mk pt xo xa xb xc (n + 1) x2 (nI i) := by
  have a : vp_in (nI i) 32 := vp_in_nI (by omega) (by omega)
  have z : (nI i).toNatClampNeg = i := nI_clamp (by omega)
  have K : wX_bestCandidate_49 post (wX_bestCandidate_4 post (nI p) (nI D) (nI E) (nI N) (nI R) (nI hd) (nI wt) lm tg en wr ef pl ac np nd mk pt xo xa xb xc n) (nI p) x2 (nI i) (nI D) (nI E) (nI N) (nI R) (nI hd) (nI wt) lm tg en wr ef pl ac np nd mk pt xo xa xb xc := by
    unfold wX_bestCandidate_49 wX_bestCandidate_50
    exact br_t rfl (nm_r (nI_1 i) k)
  refine br_f (nI_ge hi (by omega)) ⟨a, br_c (fun e1 => ⟨a, br_c (fun _ => K) (fun e2 => ⟨a, br_c (fun e3 => ?_) (fun _ => K)⟩)⟩) (fun _ => K)⟩
  rw [z] at e1 e2 e3
  rw [mz_p4] at e1
  exact absurd ⟨e1, e2, e3⟩ h
theorem mz_bc1 {post : Int32 → Prop} {p i n : Nat} {x2 : Int32} (hN : N ≤ 32) (hi : i < N) (h : pl i = nI (4 + p) ∧ ¬ ef i < 16 ∧ ac i = -1) (k : wX_bestCandidate_50 post (wX_bestCandidate_4 post (nI p) (nI D) (nI E) (nI N) (nI R) (nI hd) (nI wt) lm tg en wr ef pl ac np nd mk pt xo xa xb xc n) (nI p) x2 (nI i) 1 (nI D) (nI E) (nI N) (nI R) (nI hd) (nI wt) lm tg en wr ef pl ac np nd mk pt xo xa xb xc) : wX_bestCandidate_4 post (nI p) (nI D) (nI E) (nI N) (nI R) (nI hd) (nI wt) lm tg en wr ef pl ac np nd mk pt xo xa xb xc (n + 1) x2 (nI i) := by
  have a : vp_in (nI i) 32 := vp_in_nI (by omega) (by omega)
  have z : (nI i).toNatClampNeg = i := nI_clamp (by omega)
  exact br_f (nI_ge hi (by omega)) ⟨a, br_t (by rw [z, mz_p4]; exact h.1) ⟨a, br_f (by rw [z]; exact h.2.1) ⟨a, br_t (by rw [z]; exact h.2.2) k⟩⟩⟩
theorem mz_best (hN : N ≤ 32) {p : Nat} (hp : p < 4) (T5 : ∀ k, mz_PlR (pl k) (pe k) (la k)) (T4 : ∀ k, mz_CfR (ef k) (fp k) (fe k)) : ∀ (d i : Nat) (x2 : Int32), i + d = N → mz_Bst p fp pe la fe ac i x2 → ∃ x : Int32, mz_Bst p fp pe la fe ac N x ∧ ∀ (post : Int32 → Prop) (n : Nat), d < n → post x → wX_bestCandidate_4 post (nI p) (nI D) (nI E) (nI N) (nI R) (nI hd) (nI wt) lm tg en wr ef pl ac np nd mk pt xo xa xb xc n x2 (nI i) := by
  intro d
  induction d with
  | zero =>
    intro i x2 hi B
    obtain rfl : i = N := by omega
    refine ⟨x2, B, fun post n hn h => ?_⟩
    obtain ⟨n, rfl⟩ : ∃ m, n = m + 1 := ⟨n - 1, by omega⟩
    exact br_t (nI_le (by omega) (by omega)) h
  | succ d ih =>
    intro i x2 hi B
    have a : vp_in (nI i) 32 := vp_in_nI (by omega) (by omega)
    have z : (nI i).toNatClampNeg = i := nI_clamp (by omega)
    have cd := mz_cdX (ac := ac) hp (T5 i) (T4 i)
    by_cases c : mz_Cd p pe la fe ac i
    · obtain ⟨v, b, hv, hb, g1, g2, g3⟩ := T4 i
      have eb : b = 1 := mz_inj (g2.symm.trans c.2.2.1 : nI b = nI 1)
      subst eb
      rcases B with ⟨rfl, H⟩ | ⟨b, w, hb', rfl, cb, hw, fb, H1, H2⟩
      · have B' : mz_Bst p fp pe la fe ac (i + 1) (nI i) := by
          refine Or.inr ⟨i, v, by omega, rfl, c, hv, g1, fun j w hj cj fj hw => ?_, fun j w hj cj => absurd cj (H j hj)⟩
          by_cases e : j = i
          · subst e
            have := mz_inj (g1.symm.trans fj)
            omega
          · exact absurd cj (H j (by omega))
        obtain ⟨x, Bx, hX⟩ := ih (i + 1) (nI i) (by omega) B'
        refine ⟨x, Bx, fun post n hn h => ?_⟩
        obtain ⟨n, rfl⟩ : ∃ m, n = m + 1 := ⟨n - 1, by omega⟩
        refine mz_bc1 hN (by omega) (cd.mp c) ?_
        unfold wX_bestCandidate_50
        exact br_f mz_10 (br_t rfl (nm_r (nI_1 i) (hX post n (by omega) h)))
      · have zb : (nI b).toNatClampNeg = b := nI_clamp (by omega)
        have ab : vp_in (nI b) 32 := vp_in_nI (by omega) (by omega)
        have eb : ef b = nI (w + 16 * 1) := by
          obtain ⟨w', b', hw', hb'', k1, k2, k3⟩ := T4 b
          have e1 : w' = w := mz_inj (k1.symm.trans fb)
          have e2 : b' = 1 := mz_inj (k2.symm.trans cb.2.2.1 : nI b' = nI 1)
          rw [k3, e1, e2]
        by_cases l : w ≤ v
        · have B' : mz_Bst p fp pe la fe ac (i + 1) (nI b) := by
            refine Or.inr ⟨b, w, by omega, rfl, cb, hw, fb, fun j w' hj cj fj hw' => ?_, H2⟩
            by_cases e : j = i
            · subst e
              have := mz_inj (g1.symm.trans fj)
              omega
            · exact H1 j w' (by omega) cj fj hw'
          obtain ⟨x, Bx, hX⟩ := ih (i + 1) (nI b) (by omega) B'
          refine ⟨x, Bx, fun post n hn h => ?_⟩
          obtain ⟨n, rfl⟩ : ∃ m, n = m + 1 := ⟨n - 1, by omega⟩
          refine mz_bc1 hN (by omega) (cd.mp c) ?_
          unfold wX_bestCandidate_50
          exact br_f mz_10 (br_f (mz_nm1 (by omega)) ⟨a, ab, br_t (by rw [z, zb, eb, g3]; exact nI_le (by omega) (by omega)) (nm_r (nI_1 i) (hX post n (by omega) h))⟩)
        · have B' : mz_Bst p fp pe la fe ac (i + 1) (nI i) := by
            refine Or.inr ⟨i, v, by omega, rfl, c, hv, g1, fun j w' hj cj fj hw' => ?_, fun j w' hj cj fj hw' => ?_⟩
            · by_cases e : j = i
              · subst e
                have := mz_inj (g1.symm.trans fj)
                omega
              · have := H1 j w' (by omega) cj fj hw'
                omega
            · have := H1 j w' (by omega) cj fj hw'
              omega
          obtain ⟨x, Bx, hX⟩ := ih (i + 1) (nI i) (by omega) B'
          refine ⟨x, Bx, fun post n hn h => ?_⟩
          obtain ⟨n, rfl⟩ : ∃ m, n = m + 1 := ⟨n - 1, by omega⟩
          refine mz_bc1 hN (by omega) (cd.mp c) ?_
          unfold wX_bestCandidate_50
          exact br_f mz_10 (br_f (mz_nm1 (by omega)) ⟨a, ab, br_f (by rw [z, zb, eb, g3]; exact nI_ge (by omega) (by omega)) (nm_r (nI_1 i) (hX post n (by omega) h))⟩)
    · have B' : mz_Bst p fp pe la fe ac (i + 1) x2 := by
        rcases B with ⟨e, H⟩ | ⟨b, w, hb', e, cb, hw, fb, H1, H2⟩
        · refine Or.inl ⟨e, fun j hj => ?_⟩
          by_cases e : j = i
          · rw [e]; exact c
          · exact H j (by omega)
        · refine Or.inr ⟨b, w, by omega, e, cb, hw, fb, fun j w' hj cj fj hw' => ?_, H2⟩
          by_cases e : j = i
          · rw [e] at cj; exact absurd cj c
          · exact H1 j w' (by omega) cj fj hw'
      obtain ⟨x, Bx, hX⟩ := ih (i + 1) x2 (by omega) B'
      refine ⟨x, Bx, fun post n hn h => ?_⟩
      obtain ⟨n, rfl⟩ : ∃ m, n = m + 1 := ⟨n - 1, by omega⟩
      exact mz_bc0 hN (by omega) (fun q => c (cd.mpr q)) (hX post n (by omega) h)
/-! the reference's search, by priority -/
theorem mz_h48s {post : Int32 → Prop} {J : Int32 → Prop} {p i n v : Nat} {x3 : Int32} (hN : N ≤ 32) (hi : i < N) (T4 : mz_CfR (ef i) (fp i) (fe i)) (T5 : mz_PlR (pl i) (pe i) (la i)) (hp : p < 4) (h : ¬ (mz_Cd p pe la fe ac i ∧ fp i = nI v)) (k : wY_highest_48 post J (nI p) x3 (nI v) (nI D) (nI E) (nI N) (nI R) (nI ns) (nI wt) lm tg ei ec vq ve fp fe pe la ac sp si sv mk pt yo ya yb yc n (nI (i + 1))) : wY_highest_48 post J (nI p) x3 (nI v) (nI D) (nI E) (nI N) (nI R) (nI ns) (nI wt) lm tg ei ec vq ve fp fe pe la ac sp si sv mk pt yo ya yb yc (n + 1) (nI i) := by
  have a : vp_in (nI i) 32 := vp_in_nI (by omega) (by omega)
  have z : (nI i).toNatClampNeg = i := nI_clamp (by omega)
  have K := nm_r (P := fun x5 => wY_highest_48 post J (nI p) x3 (nI v) (nI D) (nI E) (nI N) (nI R) (nI ns) (nI wt) lm tg ei ec vq ve fp fe pe la ac sp si sv mk pt yo ya yb yc n x5) (nI_1 i) k
  refine br_f (nI_ge hi (by omega)) ⟨a, br_c (fun e1 => ⟨a, br_c (fun _ => K) (fun e2 => ⟨a, br_c (fun e3 => ⟨a, br_c (fun e4 => ⟨a, br_f ?_ K⟩) (fun _ => K)⟩) (fun _ => K)⟩)⟩) (fun _ => K)⟩
  rw [z] at e1 e2 e3 e4
  rw [z]
  intro e5
  refine h ⟨⟨e1, ?_, e3, e4⟩, e5⟩
  rcases T5 with ⟨b1, b2⟩ | ⟨s, hs, b2, ⟨b1, b3⟩ | ⟨b1, b3⟩⟩
  · rw [e1] at b2
    exact absurd b2 (mz_nm1 (by omega))
  · exact absurd b3 e2
  · exact b3
theorem mz_h48N {post : Int32 → Prop} {J : Int32 → Prop} {p v : Nat} {x3 : Int32} (hN : N ≤ 32) (T4 : ∀ k, mz_CfR (ef k) (fp k) (fe k)) (T5 : ∀ k, mz_PlR (pl k) (pe k) (la k)) (hp : p < 4) (H : ∀ i, i < N → ¬ (mz_Cd p pe la fe ac i ∧ fp i = nI v)) (k : J (nI (v + 1))) : ∀ d i n : Nat, i + d = N → d < n → wY_highest_48 post J (nI p) x3 (nI v) (nI D) (nI E) (nI N) (nI R) (nI ns) (nI wt) lm tg ei ec vq ve fp fe pe la ac sp si sv mk pt yo ya yb yc n (nI i) := by
  intro d
  induction d with
  | zero =>
    intro i n hi hn
    obtain ⟨n, rfl⟩ : ∃ m, n = m + 1 := ⟨n - 1, by omega⟩
    exact br_t (nI_le (by omega) (by omega)) (nm_r (nI_1 v) k)
  | succ d ih =>
    intro i n hi hn
    obtain ⟨n, rfl⟩ : ∃ m, n = m + 1 := ⟨n - 1, by omega⟩
    exact mz_h48s hN (by omega) (T4 i) (T5 i) hp (H i (by omega)) (ih (i + 1) n (by omega) (by omega))
theorem mz_h48H {post : Int32 → Prop} {J : Int32 → Prop} {p v b : Nat} {x3 : Int32} (hN : N ≤ 32) (T4 : ∀ k, mz_CfR (ef k) (fp k) (fe k)) (T5 : ∀ k, mz_PlR (pl k) (pe k) (la k)) (hp : p < 4) (hb : b < N) (cb : mz_Cd p pe la fe ac b) (fb : fp b = nI v) (H : ∀ i, i < b → ¬ (mz_Cd p pe la fe ac i ∧ fp i = nI v))
    (k : (mk p ≤ nI v → post (-1)) ∧ (¬ mk p ≤ nI v → ((x3 >>> (pt p &&& 31) ≤ nI v >>> (pt p &&& 31) → post (-1)) ∧ (¬ x3 >>> (pt p &&& 31) ≤ nI v >>> (pt p &&& 31) → post (nI b))))) : ∀ d i n : Nat, i + d = b → d < n → wY_highest_48 post J (nI p) x3 (nI v) (nI D) (nI E) (nI N) (nI R) (nI ns) (nI wt) lm tg ei ec vq ve fp fe pe la ac sp si sv mk pt yo ya yb yc n (nI i) := by
  intro d
  induction d with
  | zero =>
    intro i n hi hn
    obtain ⟨n, rfl⟩ : ∃ m, n = m + 1 := ⟨n - 1, by omega⟩
    obtain rfl : i = b := by omega
    have a : vp_in (nI i) 32 := vp_in_nI (by omega) (by omega)
    have a4 : vp_in (nI p) 4 := vp_in_nI hp (by omega)
    have z : (nI i).toNatClampNeg = i := nI_clamp (by omega)
    have zp : (nI p).toNatClampNeg = p := nI_clamp (by omega)
    obtain ⟨c1, c2, c3, c4⟩ := cb
    refine br_f (nI_ge hb (by omega)) ⟨a, br_t (by rw [z]; exact c1) ⟨a, br_f (by rw [z, c2]; exact mz_10) ⟨a, br_t (by rw [z]; exact c3) ⟨a, br_t (by rw [z]; exact c4) ⟨a, br_t (by rw [z]; exact fb) ⟨a4, ?_⟩⟩⟩⟩⟩⟩
    rw [zp]
    exact br_c k.1 (fun m => ⟨a4, a4, k.2 m⟩)
  | succ d ih =>
    intro i n hi hn
    obtain ⟨n, rfl⟩ : ∃ m, n = m + 1 := ⟨n - 1, by omega⟩
    exact mz_h48s hN (by omega) (T4 i) (T5 i) hp (H i (by omega)) (ih (i + 1) n (by omega) (by omega))
theorem mz_h38N {post : Int32 → Prop} {p : Nat} {x3 : Int32} (hN : N ≤ 32) (T4 : ∀ k, mz_CfR (ef k) (fp k) (fe k)) (T5 : ∀ k, mz_PlR (pl k) (pe k) (la k)) (hp : p < 4) (H : ∀ i, i < N → ¬ mz_Cd p pe la fe ac i) (k : post (-1)) : ∀ d v n : Nat, v + d = 16 → d < n → wY_highest_38 post (nI p) x3 (nI D) (nI E) (nI N) (nI R) (nI ns) (nI wt) lm tg ei ec vq ve fp fe pe la ac sp si sv mk pt yo ya yb yc n (nI v) := by
  intro d
  induction d with
  | zero =>
    intro v n hv hn
    obtain ⟨n, rfl⟩ : ∃ m, n = m + 1 := ⟨n - 1, by omega⟩
    exact br_t (nI_le (a := 16) (by omega) (by omega)) k
  | succ d ih =>
    intro v n hv hn
    obtain ⟨n, rfl⟩ : ∃ m, n = m + 1 := ⟨n - 1, by omega⟩
    exact br_f (nI_ge (b := 16) (by omega) (by omega)) ⟨N + 1, mz_h48N hN T4 T5 hp (fun i hi c => H i hi c.1) (ih (v + 1) n (by omega) (by omega)) N 0 (N + 1) (by omega) (by omega)⟩
theorem mz_h38H {post : Int32 → Prop} {p b v : Nat} {x3 : Int32} (hN : N ≤ 32) (T4 : ∀ k, mz_CfR (ef k) (fp k) (fe k)) (T5 : ∀ k, mz_PlR (pl k) (pe k) (la k)) (hp : p < 4) (hb : b < N) (hv : v < 16) (cb : mz_Cd p pe la fe ac b) (fb : fp b = nI v) (H1 : ∀ i w : Nat, i < N → mz_Cd p pe la fe ac i → fp i = nI w → w < 16 → v ≤ w) (H2 : ∀ i w : Nat, i < b → mz_Cd p pe la fe ac i → fp i = nI w → w < 16 → v < w)
    (k : (mk p ≤ nI v → post (-1)) ∧ (¬ mk p ≤ nI v → ((x3 >>> (pt p &&& 31) ≤ nI v >>> (pt p &&& 31) → post (-1)) ∧ (¬ x3 >>> (pt p &&& 31) ≤ nI v >>> (pt p &&& 31) → post (nI b))))) : ∀ d w n : Nat, w + d = v → d < n → wY_highest_38 post (nI p) x3 (nI D) (nI E) (nI N) (nI R) (nI ns) (nI wt) lm tg ei ec vq ve fp fe pe la ac sp si sv mk pt yo ya yb yc n (nI w) := by
  intro d
  induction d with
  | zero =>
    intro w n hw hn
    obtain ⟨n, rfl⟩ : ∃ m, n = m + 1 := ⟨n - 1, by omega⟩
    obtain rfl : w = v := by omega
    refine br_f (nI_ge (b := 16) (by omega) (by omega)) ⟨N + 1, mz_h48H hN T4 T5 hp hb cb fb (fun i hi c => ?_) k b 0 (N + 1) (by omega) (by omega)⟩
    exact absurd (H2 i w hi c.1 c.2 hv) (by omega)
  | succ d ih =>
    intro w n hw hn
    obtain ⟨n, rfl⟩ : ∃ m, n = m + 1 := ⟨n - 1, by omega⟩
    refine br_f (nI_ge (b := 16) (by omega) (by omega)) ⟨N + 1, mz_h48N hN T4 T5 hp (fun i hi c => ?_) (ih (w + 1) n (by omega) (by omega)) N 0 (N + 1) (by omega) (by omega)⟩
    exact absurd (H1 i w hi c.1 c.2 (by omega)) (by omega)
/-- the running priority, on both sides -/
theorem mz_run {P I V : Nat → Nat} {p : Nat} (G : mz_Nes N ns ac np nd sp si sv P I V) (hN : N ≤ 32) (hp : p < 4) : ∃ rr : Nat, rr + mz_cnt P p ns ≤ 16
    ∧ (∀ post : Int32 → Prop, post (nI rr) → wpX_runningPriority post (nI D, nI E, nI N, nI R, nI hd, nI wt, lm, tg, en, wr, ef, pl, ac, np, nd, mk, pt, xo, xa, xb, xc) (nI p))
    ∧ (∀ post : Int32 → Prop, (∃ n : Nat, wY_highest_38 post (nI p) (nI rr) (nI D) (nI E) (nI N) (nI R) (nI ns) (nI wt) lm tg ei ec vq ve fp fe pe la ac sp si sv mk pt yo ya yb yc n 0) → wpY_highest post (nI D, nI E, nI N, nI R, nI ns, nI wt, lm, tg, ei, ec, vq, ve, fp, fe, pe, la, ac, sp, si, sv, mk, pt, yo, ya, yb, yc) (nI p)) := by
  have n32 := G.2.2.2
  have a4 : vp_in (nI p) 4 := vp_in_nI hp (by omega)
  have c := mz_c16 (p := p) G
  by_cases c0 : mz_cnt P p ns = 0
  · refine ⟨16, by omega, fun post k => ?_, fun post k => ?_⟩
    · unfold wpX_runningPriority
      dsimp only
      rw [nI_clamp (n := p) (by omega), mz_nd G hp, c0]
      exact ⟨a4, nm_e (br_t rfl k)⟩
    · unfold wpY_highest
      dsimp only
      exact br_f (nI_pos (by omega)) (br_t (nI_le (b := 3) (by omega) (by omega)) (mz_fp5 G hp (Or.inr (by rw [c0]; decide)) (br_t rfl k)))
  · obtain ⟨j, h1, h2, h3, hY⟩ := mz_fp6 (D := D) (E := E) (R := R) (wt := wt) (lm := lm) (tg := tg) (mk := mk) (pt := pt) (ei := ei) (ec := ec) (vq := vq) (ve := ve) (fp := fp) (fe := fe) (pe := pe) (la := la) (yo := yo) (ya := ya) (yb := yb) (yc := yc) G hp (show 0 < mz_cnt P p ns by omega)
    obtain ⟨g1, g2, g3, g4, g5, g6, g7, g8, g9⟩ := G.1 j h1
    rw [h2] at g8 g9
    refine ⟨V j, by omega, fun post k => ?_, fun post k => ?_⟩
    · unfold wpX_runningPriority
      dsimp only
      rw [nI_clamp (n := p) (by omega), mz_nd G hp]
      refine ⟨a4, nm_e (br_f (nI_ne0 (by omega) (by omega)) ?_)⟩
      rw [mz_a16, mz_sub1 (by omega), nI_clamp (n := 16 * p + mz_cnt P p ns - 1) (by omega), show 16 * p + mz_cnt P p ns - 1 = 16 * p + mz_cnt P p j by omega, g8, mz_r16 (a := 16 * I j + V j) (t := V j) (by omega) (by omega)]
      exact ⟨vp_in_nI (by omega) (by omega), mz_d16, k⟩
    · unfold wpY_highest
      dsimp only
      refine br_f (nI_pos (by omega)) (br_t (nI_le (b := 3) (by omega) (by omega)) (hY _ (br_f (mz_nm1 (by omega)) ⟨vp_in_nI (by omega) (by omega), nm_r (e' := nI (V j)) (by rw [nI_clamp (by omega), g6]) k⟩)))
theorem mz_high {P I V : Nat → Nat} (G : mz_Nes N ns ac np nd sp si sv P I V) (hN : N ≤ 32) (T5 : ∀ k, mz_PlR (pl k) (pe k) (la k)) (T4 : ∀ k, mz_CfR (ef k) (fp k) (fe k)) (v1 : Int32) : ∃ r : Int32,
    (r = -1 ∨ ∃ p b v : Nat, p < 4 ∧ v1 = nI p ∧ b < N ∧ r = nI b ∧ ac b = -1 ∧ fp b = nI v ∧ ef b = nI (v + 16) ∧ v < 16 ∧ v + mz_cnt P p ns ≤ 15)
    ∧ (∀ post : Int32 → Prop, post r → wpX_highest post (nI D, nI E, nI N, nI R, nI hd, nI wt, lm, tg, en, wr, ef, pl, ac, np, nd, mk, pt, xo, xa, xb, xc) v1) ∧ (∀ post : Int32 → Prop, post r → wpY_highest post (nI D, nI E, nI N, nI R, nI ns, nI wt, lm, tg, ei, ec, vq, ve, fp, fe, pe, la, ac, sp, si, sv, mk, pt, yo, ya, yb, yc) v1) := by
  rcases pk_ix v1 (n := 4) (by omega) with h | h | ⟨p, hp, rfl⟩
  · refine ⟨-1, Or.inl rfl, fun post k => ?_, fun post k => ?_⟩
    · unfold wpX_highest
      dsimp only
      exact mz_w0 (Or.inl h) (br_t rfl k)
    · unfold wpY_highest
      dsimp only
      exact br_t h k
  · refine ⟨-1, Or.inl rfl, fun post k => ?_, fun post k => ?_⟩
    · unfold wpX_highest
      dsimp only
      exact mz_w0 (Or.inr h) (br_t rfl k)
    · unfold wpY_highest
      dsimp only
      exact br_f (mz_ge0 h (by omega)) (br_f (mz_gtl 3 4 h (by omega) (by omega)) k)
  have a4 : vp_in (nI p) 4 := vp_in_nI hp (by omega)
  have zp : (nI p).toNatClampNeg = p := nI_clamp (by omega)
  obtain ⟨rr, hrr, hRX, hRY⟩ := mz_run (D := D) (E := E) (R := R) (hd := hd) (wt := wt) (lm := lm) (tg := tg) (en := en) (wr := wr) (ef := ef) (pl := pl) (mk := mk) (pt := pt) (xo := xo) (xa := xa) (xb := xb) (xc := xc) (ei := ei) (ec := ec) (vq := vq) (ve := ve) (fp := fp) (fe := fe) (pe := pe) (la := la) (yo := yo) (ya := ya) (yb := yb) (yc := yc) G hN hp
  obtain ⟨x, B, hX⟩ := mz_best (D := D) (E := E) (R := R) (hd := hd) (wt := wt) (lm := lm) (tg := tg) (en := en) (wr := wr) (np := np) (nd := nd) (mk := mk) (pt := pt) (xo := xo) (xa := xa) (xb := xb) (xc := xc) hN hp T5 T4 N 0 (-1) (by omega) (Or.inl ⟨rfl, fun i hi => absurd hi (Nat.not_lt_zero i)⟩)
  have hXX : ∀ post : Int32 → Prop, post x → wpX_bestCandidate post (nI D, nI E, nI N, nI R, nI hd, nI wt, lm, tg, en, wr, ef, pl, ac, np, nd, mk, pt, xo, xa, xb, xc) (nI p) := by
    intro post k
    unfold wpX_bestCandidate
    dsimp only
    exact ⟨N + 1, hX post (N + 1) (by omega) k⟩
  rcases B with ⟨rfl, H⟩ | ⟨b, v, hb, rfl, cb, hv, fb, H1, H2⟩
  · refine ⟨-1, Or.inl rfl, fun post k => ?_, fun post k => ?_⟩
    · unfold wpX_highest
      dsimp only
      exact mz_w1 4 hp (by omega) (br_f mz_10 (hXX _ (br_t rfl k)))
    · exact hRY post ⟨17, mz_h38N hN T4 T5 hp H k 16 0 17 (by omega) (by omega)⟩
  have zb : (nI b).toNatClampNeg = b := nI_clamp (by omega)
  have ab : vp_in (nI b) 32 := vp_in_nI (by omega) (by omega)
  have eb : ef b = nI (v + 16) := by
    obtain ⟨w', b', hw', hb'', k1, k2, k3⟩ := T4 b
    have e1 : w' = v := mz_inj (k1.symm.trans fb)
    have e2 : b' = 1 := mz_inj (k2.symm.trans cb.2.2.1 : nI b' = nI 1)
    rw [k3, e1, e2]
  have X1 : ∀ post : Int32 → Prop, ((nI rr >>> (pt p &&& 31) ≤ nI v >>> (pt p &&& 31) → wX_highest_66 post (nI p) (nI b) (nI v) 0 (nI D) (nI E) (nI N) (nI R) (nI hd) (nI wt) lm tg en wr ef pl ac np nd mk pt xo xa xb xc) ∧ (¬ nI rr >>> (pt p &&& 31) ≤ nI v >>> (pt p &&& 31) → wX_highest_66 post (nI p) (nI b) (nI v) 1 (nI D) (nI E) (nI N) (nI R) (nI hd) (nI wt) lm tg en wr ef pl ac np nd mk pt xo xa xb xc)) → wpX_highest post (nI D, nI E, nI N, nI R, nI hd, nI wt, lm, tg, en, wr, ef, pl, ac, np, nd, mk, pt, xo, xa, xb, xc) (nI p) := by
    intro post k
    unfold wpX_highest
    dsimp only
    refine mz_w1 4 hp (by omega) (br_f mz_10 (hXX _ (br_f (mz_nm1 (by omega)) ?_)))
    rw [zb, eb, mz_r16 (a := v + 16) (t := v) (by omega) (by omega), zp]
    exact ⟨ab, mz_d16, nm_e (hRX _ ⟨a4, a4, k⟩)⟩
  have Y1 : ∀ post : Int32 → Prop, ((mk p ≤ nI v → post (-1)) ∧ (¬ mk p ≤ nI v → ((nI rr >>> (pt p &&& 31) ≤ nI v >>> (pt p &&& 31) → post (-1)) ∧ (¬ nI rr >>> (pt p &&& 31) ≤ nI v >>> (pt p &&& 31) → post (nI b))))) → wpY_highest post (nI D, nI E, nI N, nI R, nI ns, nI wt, lm, tg, ei, ec, vq, ve, fp, fe, pe, la, ac, sp, si, sv, mk, pt, yo, ya, yb, yc) (nI p) := by
    intro post k
    exact hRY post ⟨17, mz_h38H hN T4 T5 hp hb hv cb fb H1 H2 k v 0 17 (by omega) (by omega)⟩
  have X6 : ∀ (post : Int32 → Prop) (z0 : Int32), ((mk p ≤ nI v → post (-1)) ∧ (¬ mk p ≤ nI v → ((z0 = 0 → post (-1)) ∧ (¬ z0 = 0 → post (nI b))))) → wX_highest_66 post (nI p) (nI b) (nI v) z0 (nI D) (nI E) (nI N) (nI R) (nI hd) (nI wt) lm tg en wr ef pl ac np nd mk pt xo xa xb xc := by
    intro post z0 k
    unfold wX_highest_66
    rw [zp]
    exact ⟨a4, k⟩
  by_cases m : mk p ≤ nI v
  · exact ⟨-1, Or.inl rfl, fun post k => X1 post (br_c (fun _ => X6 post 0 (br_t m k)) (fun _ => X6 post 1 (br_t m k))), fun post k => Y1 post (br_t m k)⟩
  by_cases s : nI rr >>> (pt p &&& 31) ≤ nI v >>> (pt p &&& 31)
  · exact ⟨-1, Or.inl rfl, fun post k => X1 post (br_t s (X6 post 0 (br_f m (br_t rfl k)))), fun post k => Y1 post (br_f m (br_t s k))⟩
  · refine ⟨nI b, Or.inr ⟨p, b, v, hp, rfl, hb, rfl, cb.2.2.2, fb, eb, hv, ?_⟩, fun post k => X1 post (br_f s (X6 post 1 (br_f m (br_f mz_10 k)))), fun post k => Y1 post (br_f m (br_f s k))⟩
    have l : v < rr := by
      by_cases l : rr ≤ v
      · exact absurd (mz_shm _ l (by omega)) s
      · omega
    omega
end
end
section
/-! highest and acknowledge, as owed -/
theorem i_vc_highest {k : Nat} {u : SX} {v : SY} (I : i_Rel k u v) (hk : k + 5 ≤ 2564) (v1 : Int32) : wpX_highest (fun r => wpY_highest (fun r' => r' = r ∧ i_Rel (k + 5) u v) v v1) u v1 := by
  refine mz_el (P := fun u v => wpX_highest (fun r => wpY_highest (fun r' => r' = r ∧ i_Rel (k + 5) u v) v v1) u v1) ?_ I
  intro D E N R hd wt ns lm tg en wr ef pl ac np nd mk pt xo xa xb xc ei ec vq ve fp fe pe la sp si sv yo ya yb yc F
  have J : i_Rel (k + 5) (nI D, nI E, nI N, nI R, nI hd, nI wt, lm, tg, en, wr, ef, pl, ac, np, nd, mk, pt, xo, xa, xb, xc) (nI D, nI E, nI N, nI R, nI ns, nI wt, lm, tg, ei, ec, vq, ve, fp, fe, pe, la, ac, sp, si, sv, mk, pt, yo, ya, yb, yc) := mz_in F
  obtain ⟨⟨d1, d2, e1, e2, n1, n2, r1, r2⟩, ⟨T1, T2, T3, T4, T5⟩, C, A, ⟨P, I, V, G⟩, Q⟩ := F
  obtain ⟨r, _, hX, hY⟩ := mz_high (D := D) (E := E) (R := R) (hd := hd) (wt := wt) (lm := lm) (tg := tg) (en := en) (wr := wr) (mk := mk) (pt := pt) (xo := xo) (xa := xa) (xb := xb) (xc := xc) (ei := ei) (ec := ec) (vq := vq) (ve := ve) (yo := yo) (ya := ya) (yb := yb) (yc := yc) G n2 T5 T4 v1
  exact hX _ (hY _ ⟨rfl, J⟩)
/-! numbers below m, all different -/
theorem mz_php : ∀ (m n : Nat) (f : Nat → Nat), (∀ j, j < n → f j < m) → (∀ i j, i < j → j < n → f i ≠ f j) → n ≤ m := by
  intro m
  induction m with
  | zero =>
    intro n f h1 _
    by_cases e : n = 0
    · omega
    · exact absurd (h1 0 (by omega)) (Nat.not_lt_zero _)
  | succ m ih =>
    intro n f h1 h2
    by_cases c : ∃ t, t < n ∧ f t = m
    · obtain ⟨t, ht, et⟩ := c
      have hne : ∀ j, j < n → j ≠ t → f j < m := by
        intro j hj ne
        have l := h1 j hj
        have d : f j ≠ f t := by
          by_cases q : j < t
          · exact h2 j t q ht
          · exact fun z => h2 t j (by omega) hj z.symm
        omega
      have r := ih (n - 1) (mz_rm f t) (fun j hj => by
        by_cases q : j < t
        · rw [mz_rml q]; exact hne j (by omega) (by omega)
        · rw [mz_rmg (by omega)]; exact hne (j + 1) (by omega) (by omega)) (fun i j hij hj => by
        by_cases q : i < t
        · rw [mz_rml q]
          by_cases q2 : j < t
          · rw [mz_rml q2]; exact h2 i j hij (by omega)
          · rw [mz_rmg (by omega)]; exact h2 i (j + 1) (by omega) (by omega)
        · rw [mz_rmg (by omega), mz_rmg (by omega)]; exact h2 (i + 1) (j + 1) (by omega) (by omega))
      omega
    · have r := ih n f (fun j hj => by
        have l := h1 j hj
        have d : f j ≠ m := fun z => c ⟨j, hj, z⟩
        omega) h2
      omega
def mz_un (P : Nat → Nat) (i x : Nat) : Nat → Nat := fun j => if j = i then x else P j
theorem mz_uns {P : Nat → Nat} {i x : Nat} : mz_un P i x i = x := if_pos rfl
theorem mz_unn {P : Nat → Nat} {i x j : Nat} (h : j ≠ i) : mz_un P i x j = P j := if_neg h
theorem mz_room {N ns b : Nat} {I : Nat → Nat} (hN : N ≤ 32) (h1 : ∀ j, j < ns → I j < N) (h2 : ∀ j j', j < j' → j' < ns → I j ≠ I j') (hb : b < N) (H : ∀ j, j < ns → ¬ I j = b) : ns < 32 := by
  have r := mz_php N (ns + 1) (mz_un I ns b) (fun j hj => by
    by_cases e : j = ns
    · rw [e, mz_uns]; exact hb
    · rw [mz_unn e]; exact h1 j (by omega)) (fun i j hij hj => by
    rw [mz_unn (show i ≠ ns by omega)]
    by_cases e : j = ns
    · rw [e, mz_uns]; exact H i (by omega)
    · rw [mz_unn e]; exact h2 i j hij (by omega))
  omega
theorem mz_nesP {N ns b p v : Nat} {ac np nd sp si sv : Nat → Int32} {P I V : Nat → Nat} (G : mz_Nes N ns ac np nd sp si sv P I V) (hp : p < 4) (hb : b < N) (hv : v < 16) (hc : v + mz_cnt P p ns ≤ 15) (H : ∀ j, j < ns → ¬ I j = b) (hn : ns < 32) :
    mz_Nes N (ns + 1) (upd ac b (nI p)) (upd np (16 * p + mz_cnt P p ns) (nI (16 * b + v))) (upd nd p (nI (mz_cnt P p ns + 1))) (upd sp ns (nI p)) (upd si ns (nI b)) (upd sv ns (nI v)) (mz_un P ns p) (mz_un I ns b) (mz_un V ns v) := by
  have ce : ∀ q m, m ≤ ns → mz_cnt (mz_un P ns p) q m = mz_cnt P q m := fun q m hm => mz_cnt_ext m (fun i hi => mz_unn (by omega))
  refine ⟨fun j hj => ?_, fun q hq => ?_, fun i i' h1 h2 => ?_, by omega⟩
  · by_cases e : j = ns
    · subst e
      rw [mz_uns, mz_uns, mz_uns, pk_us, pk_us, pk_us, pk_us, ce p j (Nat.le_refl j), pk_us]
      exact ⟨hp, hb, hv, rfl, rfl, rfl, rfl, rfl, hc⟩
    · have hj' : j < ns := by omega
      obtain ⟨g1, g2, g3, g4, g5, g6, g7, g8, g9⟩ := G.1 j hj'
      rw [mz_unn e, mz_unn e, mz_unn e, pk_un e, pk_un e, pk_un e, pk_un (H j hj'), ce (P j) j (by omega)]
      have ne : 16 * P j + mz_cnt P (P j) j ≠ 16 * p + mz_cnt P p ns := by
        by_cases q : P j = p
        · have l := mz_cnt_lt hj' q
          rw [q]
          omega
        · omega
      rw [pk_un ne]
      exact ⟨g1, g2, g3, g4, g5, g6, g7, g8, g9⟩
  · by_cases e : q = p
    · subst e
      rw [pk_us, mz_cnt_s mz_uns, ce q ns (Nat.le_refl ns)]
    · rw [pk_un e, mz_cnt_n (by rw [mz_uns]; exact fun z => e z.symm), ce q ns (Nat.le_refl ns)]
      exact G.2.1 q hq
  · rw [mz_unn (show i ≠ ns by omega)]
    by_cases e : i' = ns
    · rw [e, mz_uns]; exact H i (by omega)
    · rw [mz_unn e]; exact G.2.2.1 i i' h1 (by omega)
theorem i_vc_acknowledge {k : Nat} {u : SX} {v : SY} (I : i_Rel k u v) (hk : k + 5 ≤ 2564) (v1 : Int32) : wpX_acknowledge (fun r u' => wpY_acknowledge (fun r' v' => r' = r ∧ i_Rel (k + 5) u' v') v v1) u v1 := by
  refine mz_el (P := fun u v => wpX_acknowledge (fun r u' => wpY_acknowledge (fun r' v' => r' = r ∧ i_Rel (k + 5) u' v') v v1) u v1) ?_ I
  intro D E N R hd wt ns lm tg en wr ef pl ac np nd mk pt xo xa xb xc ei ec vq ve fp fe pe la sp si sv yo ya yb yc F
  have J : i_Rel (k + 5) (nI D, nI E, nI N, nI R, nI hd, nI wt, lm, tg, en, wr, ef, pl, ac, np, nd, mk, pt, xo, xa, xb, xc) (nI D, nI E, nI N, nI R, nI ns, nI wt, lm, tg, ei, ec, vq, ve, fp, fe, pe, la, ac, sp, si, sv, mk, pt, yo, ya, yb, yc) := mz_in F
  obtain ⟨⟨d1, d2, e1, e2, n1, n2, r1, r2⟩, ⟨T1, T2, T3, T4, T5⟩, C, A, ⟨P, I, V, G⟩, Q⟩ := F
  obtain ⟨r, hr, hX, hY⟩ := mz_high (D := D) (E := E) (R := R) (hd := hd) (wt := wt) (lm := lm) (tg := tg) (en := en) (wr := wr) (mk := mk) (pt := pt) (xo := xo) (xa := xa) (xb := xb) (xc := xc) (ei := ei) (ec := ec) (vq := vq) (ve := ve) (yo := yo) (ya := ya) (yb := yb) (yc := yc) G n2 T5 T4 v1
  unfold wpX_acknowledge wpY_acknowledge
  dsimp only
  rcases hr with rfl | ⟨p, b, v, hp, rfl, hb, rfl, ab, fb, eb, hv, hc⟩
  · exact hX _ (br_t rfl (hY _ (br_t rfl ⟨rfl, J⟩)))
  have H : ∀ j, j < ns → ¬ I j = b := by
    intro j hj e
    have g := (G.1 j hj).2.2.2.2.2.2.1
    rw [e, ab] at g
    exact mz_m1n (by have := (G.1 j hj).1; omega) g
  have hn : ns < 32 := mz_room n2 (fun j hj => (G.1 j hj).2.1) G.2.2.1 hb H
  have K : i_Rel (k + 5) (nI D, nI E, nI N, nI R, nI hd, nI wt, lm, tg, en, wr, ef, upd pl b (-1), upd ac b (nI p), upd np (16 * p + mz_cnt P p ns) (nI (16 * b + v)), upd nd p (nI (mz_cnt P p ns + 1)), mk, pt, xo, xa, xb, xc) (nI D, nI E, nI N, nI R, nI (ns + 1), nI wt, lm, tg, ei, ec, vq, ve, fp, fe, upd pe b (-1), upd la b 0, upd ac b (nI p), upd sp ns (nI p), upd si ns (nI b), upd sv ns (nI v), mk, pt, yo, ya, yb, yc) :=
    mz_in ⟨⟨d1, d2, e1, e2, n1, n2, r1, r2⟩, ⟨T1, T2, T3, T4, mz_up3 T5 (Or.inl ⟨rfl, rfl⟩)⟩, C, mz_up1 A (Or.inr ⟨p, hp, rfl⟩), ⟨mz_un P ns p, mz_un I ns b, mz_un V ns v, mz_nesP G hp hb hv hc H hn⟩, Q⟩
  have nb : ¬ nI b = -1 := mz_nm1 (by omega)
  have a4 : vp_in (nI p) 4 := vp_in_nI hp (by omega)
  have a32 : vp_in (nI b) 32 := vp_in_nI (by omega) (by omega)
  refine hX _ (br_f nb ?_)
  rw [nI_clamp (n := p) (by omega), nI_clamp (n := b) (by omega), mz_nd G hp, eb, mz_r16 (a := v + 16) (t := v) (by omega) (by omega)]
  refine ⟨a32, nm_e ⟨a32, nm_e ⟨a4, a32, mz_d16, mz_st (16 * p + mz_cnt P p ns) (mz_a16 _ _) (by omega) (mz_a16 _ _) ⟨a4, a4, nm_r (by rw [nI_1]) ?_⟩⟩⟩⟩
  have b32 : b < 32 := by omega
  exact hY _ (br_f nb (br_t (nI_lt (b := 32) hn (by omega)) (mz_st b rfl b32 rfl (mz_st b rfl b32 mz_nb0 (mz_st b rfl b32 rfl (mz_st ns rfl hn rfl (mz_st ns rfl hn rfl ⟨a32, mz_st ns rfl hn (by rw [nI_clamp (by omega)]; exact fb) (nm_r (nI_1 ns) ⟨rfl, K⟩)⟩)))))))
end
