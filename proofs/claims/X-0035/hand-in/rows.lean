section
/-! pure rows to paste: stores, nI and lN arithmetic, masks, shifts, narrowing, branches by naturals (pk_le, pk_lt, pk_eq), loops (lp1 .. lp16: the measure of the state; rp1 ..: recursion), negatives. Take what you need -/
theorem pk_us {f : Nat → Int32} {k : Nat} {x : Int32} : upd f k x k = x := if_pos rfl
theorem pk_un {f : Nat → Int32} {k j : Nat} {x : Int32} (h : j ≠ k) : upd f k x j = f j := if_neg h
theorem pk_uLs {f : Nat → Int64} {k : Nat} {x : Int64} : vp_updL f k x k = x := if_pos rfl
theorem pk_uLn {f : Nat → Int64} {k j : Nat} {x : Int64} (h : j ≠ k) : vp_updL f k x j = f j := if_neg h
theorem pk_sub {a b : Nat} (h : b ≤ a) : nI a - nI b = nI (a - b) := by
  obtain ⟨c, rfl⟩ : ∃ c, a = c + b := ⟨a - b, by omega⟩
  rw [← nI_add, Int32.add_sub_cancel, Nat.add_sub_cancel]
theorem pk_m1 (n : Nat) : nI (n + 1) + (-1) = nI n := by
  rw [← nI_1, Int32.add_assoc, show (1 : Int32) + (-1) = 0 from rfl, Int32.add_zero]
theorem pk_mul (a b : Nat) : nI a * nI b = nI (a * b) := (Int32.ofNat_mul a b).symm
theorem pk_div {a d : Nat} (ha : a < 2 ^ 31) (h0 : 0 < d) (hd : d < 2 ^ 31) : nI a / nI d = nI (a / d) := by
  apply Int32.toInt_inj.mp
  rw [lg_idiv_nonneg (by rw [nI_toInt ha]; omega) (by rw [nI_toInt hd]; omega), nI_toInt ha, nI_toInt hd, nI_toInt (Nat.lt_of_le_of_lt (Nat.div_le_self a d) ha)]
  first | rfl | exact (Int.natCast_ediv _ _).symm
theorem pk_rem {a d : Nat} (ha : a < 2 ^ 31) (h0 : 0 < d) (hd : d < 2 ^ 31) : nI a - nI a / nI d * nI d = nI (a % d) := by
  rw [pk_div ha h0 hd, pk_mul, pk_sub (Nat.div_mul_le_self a d)]
  exact congrArg nI (by have := Nat.div_add_mod' a d; omega)
theorem pk_sub_toInt {a b : Nat} (ha : a < 2 ^ 30) (hb : b < 2 ^ 30) : (nI a - nI b).toInt = (a : Int) - b := by
  rw [Int32.toInt_sub, nI_toInt (by omega), nI_toInt (by omega)]
  exact Int.bmod_eq_of_le (by omega) (by omega)
theorem pk_sneg {a b : Nat} (hb : b < 2 ^ 30) (h : a < b) : nI a - nI b < 0 := by
  rw [Int32.lt_iff_toInt_lt, pk_sub_toInt (by omega) hb, show (0 : Int32).toInt = 0 from by decide]
  omega
theorem pk_ix (x : Int32) {n : Nat} (hn : n < 2 ^ 31) : x < 0 ∨ nI n ≤ x ∨ ∃ j : Nat, j < n ∧ x = nI j := by
  by_cases h : x < 0
  · exact Or.inl h
  · obtain ⟨j, hj, rfl⟩ := nI_of h
    by_cases h2 : j < n
    · exact Or.inr (Or.inr ⟨j, h2, rfl⟩)
    · exact Or.inr (Or.inl (nI_le (by omega) hj))
theorem pk_le {x y : Int32} {A B : Prop} (a b : Nat) (f : a ≤ b → A) (g : b < a → B) (hx : x = nI a := by rfl) (hy : y = nI b := by rfl) (ha : a < 2 ^ 31 := by omega) (hb : b < 2 ^ 31 := by omega) : (x ≤ y → A) ∧ (¬ x ≤ y → B) := by
  subst hx hy
  rw [nI_leI ha hb]
  exact ⟨f, fun z => g (by omega)⟩
theorem pk_lt {x y : Int32} {A B : Prop} (a b : Nat) (f : a < b → A) (g : b ≤ a → B) (hx : x = nI a := by rfl) (hy : y = nI b := by rfl) (ha : a < 2 ^ 31 := by omega) (hb : b < 2 ^ 31 := by omega) : (x < y → A) ∧ (¬ x < y → B) := by
  subst hx hy
  rw [nI_ltI ha hb]
  exact ⟨f, fun z => g (by omega)⟩
theorem pk_eq {x y : Int32} {A B : Prop} (a b : Nat) (f : a = b → A) (g : a ≠ b → B) (hx : x = nI a := by rfl) (hy : y = nI b := by rfl) (ha : a < 2 ^ 31 := by omega) (hb : b < 2 ^ 31 := by omega) : (x = y → A) ∧ (¬ x = y → B) := by
  subst hx hy
  rw [nI_eq ha hb]
  exact ⟨f, g⟩
theorem pk_in {x : Int32} (n N : Nat) (h : n < N) (hx : x = nI n := by rfl) (hN : N < 2 ^ 31 := by omega) : vp_in x N := by
  subst hx
  exact vp_in_nI h hN
theorem pk_cl {x : Int32} (n : Nat) (hx : x = nI n := by rfl) (h : n < 2 ^ 31 := by omega) : x.toNatClampNeg = n := by
  subst hx
  exact nI_clamp h
theorem pk_tn {n : Nat} (h : n < 2 ^ 32) : (nI n).toBitVec.toNat = n := Nat.mod_eq_of_lt h
theorem pk_and (x : Int32) {m : Int32} (k : Nat) (hm : m.toBitVec.toNat = 2 ^ k - 1) : x &&& m = nI (x.toBitVec.toNat % 2 ^ k) := by
  apply Int32.toBitVec_inj.mp
  apply BitVec.eq_of_toNat_eq
  rw [Int32.toBitVec_and, BitVec.toNat_and, hm, Nat.and_two_pow_sub_one_eq_mod]
  show _ = (BitVec.ofNat 32 _).toNat
  rw [BitVec.toNat_ofNat]
  exact (Nat.mod_eq_of_lt (Nat.lt_of_le_of_lt (Nat.mod_le _ _) x.toBitVec.isLt)).symm
theorem pk_andN {n : Nat} (h : n < 2 ^ 32) {m : Int32} (k : Nat) (hm : m.toBitVec.toNat = 2 ^ k - 1) : nI n &&& m = nI (n % 2 ^ k) := by
  rw [pk_and _ k hm, pk_tn h]
theorem pk_andE (x : Int32) {m : Int32} (k : Nat) (hm : m.toBitVec.toNat = 2 ^ k - 1) : ∃ j : Nat, j < 2 ^ k ∧ x &&& m = nI j := ⟨_, Nat.mod_lt _ (Nat.two_pow_pos k), pk_and x k hm⟩
theorem pk_andIn (x : Int32) {m : Int32} (k : Nat) (hm : m.toBitVec.toNat = 2 ^ k - 1) (hk : k ≤ 30) : vp_in (x &&& m) (2 ^ k) := by
  obtain ⟨j, hj, e⟩ := pk_andE x k hm
  rw [e]
  exact vp_in_nI hj (Nat.lt_of_le_of_lt (Nat.pow_le_pow_right (by decide) hk) (by decide))
theorem pk_shl (a s : Int32) (k : Nat) (hs : (s.toBitVec.smod 32).toNat = k) : (a <<< s).toBitVec.toNat = a.toBitVec.toNat * 2 ^ k % 2 ^ 32 := by
  show (a.toBitVec <<< (s.toBitVec.smod 32).toNat).toNat = _
  rw [hs, BitVec.toNat_shiftLeft, Nat.shiftLeft_eq]
theorem pk_shlN {n : Nat} (s : Int32) (k : Nat) (hs : (s.toBitVec.smod 32).toNat = k) (h : n * 2 ^ k < 2 ^ 32) : nI n <<< s = nI (n * 2 ^ k) := by
  apply Int32.toBitVec_inj.mp
  apply BitVec.eq_of_toNat_eq
  have hn : n < 2 ^ 32 := Nat.lt_of_le_of_lt (Nat.le_mul_of_pos_right n (Nat.two_pow_pos k)) h
  rw [pk_shl _ _ k hs, pk_tn hn, pk_tn h, Nat.mod_eq_of_lt h]
theorem pk_shr (a s : Int32) (k : Nat) (hs : (s.toBitVec.smod 32).toNat = k) : (a >>> s).toInt = a.toInt >>> k := by
  show (a.toBitVec.sshiftRight (s.toBitVec.smod 32).toNat).toInt = _
  rw [hs, BitVec.toInt_sshiftRight]
  rfl
theorem pk_shrN {n : Nat} (h : n < 2 ^ 31) (s : Int32) (k : Nat) (hs : (s.toBitVec.smod 32).toNat = k) : nI n >>> s = nI (n / 2 ^ k) := by
  apply Int32.toInt_inj.mp
  have h2 : n / 2 ^ k ≤ n := Nat.div_le_self _ _
  rw [pk_shr _ _ k hs, nI_toInt h, nI_toInt (by omega), Int.shiftRight_eq_div_pow]
  rfl
end
section
/-! basics: literals as nI, arithmetic, slots -/
theorem ta_l0 : (0 : Int32) = nI 0 := rfl
theorem ta_l1 : (1 : Int32) = nI 1 := rfl
theorem ta_l2 : (2 : Int32) = nI 2 := rfl
theorem ta_l3 : (3 : Int32) = nI 3 := rfl
theorem ta_l4 : (4 : Int32) = nI 4 := rfl
theorem ta_l5 : (5 : Int32) = nI 5 := rfl
theorem ta_l6 : (6 : Int32) = nI 6 := rfl
theorem ta_l7 : (7 : Int32) = nI 7 := rfl
theorem ta_l8 : (8 : Int32) = nI 8 := rfl
theorem ta_l9 : (9 : Int32) = nI 9 := rfl
theorem ta_l10 : (10 : Int32) = nI 10 := rfl
theorem ta_l11 : (11 : Int32) = nI 11 := rfl
theorem ta_l12 : (12 : Int32) = nI 12 := rfl
theorem ta_l13 : (13 : Int32) = nI 13 := rfl
theorem ta_l14 : (14 : Int32) = nI 14 := rfl
theorem ta_l23 : (23 : Int32) = nI 23 := rfl
theorem ta_l24 : (24 : Int32) = nI 24 := rfl
theorem ta_l27 : (27 : Int32) = nI 27 := rfl
theorem ta_l28 : (28 : Int32) = nI 28 := rfl
theorem ta_l32 : (32 : Int32) = nI 32 := rfl
theorem ta_l40 : (40 : Int32) = nI 40 := rfl
theorem ta_l96 : (96 : Int32) = nI 96 := rfl
theorem ta_l128 : (128 : Int32) = nI 128 := rfl
theorem ta_l200 : (200 : Int32) = nI 200 := rfl
theorem ta_l9216 : (9216 : Int32) = nI 9216 := rfl
def ta_m : Int32 := -1
theorem ta_mI : -nI 1 = ta_m := rfl
theorem ta_mlt : ta_m < nI 0 := by decide
theorem ta_mle : ¬ nI 0 ≤ ta_m := by decide
theorem ta_mneg {n : Nat} (h : n < 2 ^ 31) : ¬ nI n = ta_m := by
  intro e
  have := congrArg Int32.toInt e
  rw [nI_toInt h, show ta_m.toInt = -1 from by decide] at this
  omega
theorem ta_meq {n : Nat} (h : n < 2 ^ 31) : (ta_m = nI n) ↔ False := ⟨fun e => ta_mneg h e.symm, fun z => z.elim⟩
theorem ta_eqm {n : Nat} (h : n < 2 ^ 31) : (nI n = ta_m) ↔ False := ⟨fun e => ta_mneg h e, fun z => z.elim⟩
theorem ta_r3 (a : Nat) : a - a / 3 * 3 = a % 3 := by omega
theorem ta_r96 (a : Nat) : a - a / 96 * 96 = a % 96 := by omega
theorem ta_and3 {n : Nat} (h : n < 2 ^ 31) : nI n &&& nI 3 = nI (n % 4) := pk_andN (by omega) (m := nI 3) 2 (by decide)
theorem ta_sh2 {n : Nat} (h : n < 2 ^ 31) : nI n >>> (nI 2 &&& 31) = nI (n / 4) := pk_shrN h (nI 2 &&& 31) 2 (by decide)
theorem ta_in {n N : Nat} (h : n < 2 ^ 31) (hN : N < 2 ^ 31) : vp_in (nI n) N ↔ n < N := by
  rw [vp_in_iff, nI_toInt h]; omega
theorem ta_nb0 : vp_nar .boolean (nI 0) = nI 0 := rfl
theorem ta_nb1 : vp_nar .boolean (nI 1) = nI 1 := rfl
theorem ta_nw0 : (narrow .boolean (.int (nI 0)) = .int (nI 0)) ↔ True := ⟨fun _ => trivial, fun _ => rfl⟩
theorem ta_nw1 : (narrow .boolean (.int (nI 1)) = .int (nI 1)) ↔ True := ⟨fun _ => trivial, fun _ => rfl⟩
theorem ta_5 (i : Nat) : (5 : Int32) * nI i = nI (5 * i) := by rw [ta_l5, pk_mul]
theorem ta_p1 (i : Nat) : nI i + 1 = nI (i + 1) := nI_1 i
theorem ta_p2 (i : Nat) : nI i + 2 = nI (i + 2) := by rw [ta_l2, nI_add]
theorem ta_p3 (i : Nat) : nI i + 3 = nI (i + 3) := by rw [ta_l3, nI_add]
theorem ta_p4 (i : Nat) : nI i + 4 = nI (i + 4) := by rw [ta_l4, nI_add]
theorem ta_4 (i : Nat) : (4 : Int32) * nI i = nI (4 * i) := by rw [ta_l4, pk_mul]
theorem ta_3 (i : Nat) : (3 : Int32) * nI i = nI (3 * i) := by rw [ta_l3, pk_mul]
theorem ta_d3 {n : Nat} (h : n < 2 ^ 31) : nI n / 3 = nI (n / 3) := pk_div h (by decide) (by decide)
theorem ta_q3 {n : Nat} (h : n < 2 ^ 31) : nI n - nI n / 3 * 3 = nI (n % 3) := pk_rem h (by decide) (by decide)
theorem ta_d4 {n : Nat} (h : n < 2 ^ 31) : nI n / 4 = nI (n / 4) := pk_div h (by decide) (by decide)
theorem ta_keq {k : Nat} (hk : k ≤ 5) {c : Nat} (hc : c ≤ 5) (h : ¬ k = c) : ¬ nI k = nI c := by rw [nI_eq (by omega) (by omega)]; exact h
theorem ta_a3 {n : Nat} (h : n < 2 ^ 31) : nI n &&& 3 = nI (n % 4) := ta_and3 h
theorem ta_s2 {n : Nat} (h : n < 2 ^ 31) : nI n >>> ((2 : Int32) &&& 31) = nI (n / 4) := ta_sh2 h
theorem ta_vi {n N : Nat} (h : n < N) (hN : N < 2 ^ 31 := by decide) : vp_in (nI n) N := vp_in_nI h hN
/-- a slot's value -/
def ta_enc (x : Option Nat) : Int32 := match x with
  | none => ta_m
  | some w => nI w
/-- the term that a word stands for, under an environment -/
def ta_wt (K : Nat → Nat) (w e : Nat) : Nat := if K (w / 4) = 5 ∧ w % 4 = 1 then 3 * (w / 4) else 3 * (w / 4) + e
def ta_rk (t : Nat) : Nat := 32 * (t % 3) + t / 3
def ta_Can (yT : Nat → Int32) (top : Nat) : Prop := ∀ a b, a < top → b < top → (∀ j, j < 5 → yT (5 * a + j) = yT (5 * b + j)) → a = b
def ta_GW (K : Nat → Nat) (nc w : Nat) : Prop := w / 4 < nc ∧ (K (w / 4) = 4 ∨ (K (w / 4) = 5 ∧ w % 4 ≤ 1) ∨ (K (w / 4) = 2 ∧ w % 4 = 0))
def ta_SK (K : Nat → Nat) (t : Nat) : Prop := K t = 0 ∨ K t = 1 ∨ K t = 3
theorem ta_nodup_app {L : List Nat} {p : Nat} (h : L.Nodup) (hp : ¬ p ∈ L) : (L ++ [p]).Nodup := by
  rw [List.nodup_append]
  refine ⟨h, by simp, ?_⟩
  intro a ha b hb e
  rw [List.mem_singleton] at hb
  subst hb; subst e
  exact hp ha
end
section
/-! X's equality of terms: the worklist answers whether the two terms have one image in Y's table -/
section
variable {xmN xmL xmD xmT xnc xlc xbc xvd xel xkd xke xqd xst xat xpc xdp xtp : Int32} {xK xP xL xbt xbf xR xB xQ xS xt xv : Nat → Int32}
variable {K : Nat → Nat} {yT : Nat → Int32} {top : Nat} {V : Nat → Prop} {rs φ : Nat → Nat}
def ta_EqW (K : Nat → Nat) (xK xP yT : Nat → Int32) (V : Nat → Prop) (rs φ : Nat → Nat) (t j : Nat) : Prop :=
  (xP (4 * (t / 3) + j) = ta_m ∧ yT (5 * φ t + 1 + j) = ta_m) ∨
  ∃ w, w < 128 ∧ xP (4 * (t / 3) + j) = nI w ∧ xK (w / 4) = nI (K (w / 4)) ∧ V (ta_wt K w (t % 3)) ∧
    ta_rk (rs (ta_wt K w (t % 3))) < ta_rk t ∧ yT (5 * φ t + 1 + j) = nI (4 * φ (ta_wt K w (t % 3)) + w % 4)
def ta_EqT (K : Nat → Nat) (xP yT : Nat → Int32) (V : Nat → Prop) (rs φ : Nat → Nat) (t : Nat) : Prop :=
  ∃ c, c < 32 ∧ xP (4 * (t / 3) + (K (t / 3) - 2)) = nI c ∧ V (3 * c + t % 3) ∧ ta_rk (rs (3 * c + t % 3)) < ta_rk t ∧
    yT (5 * φ t + 1 + (K (t / 3) - 2)) = nI (φ (3 * c + t % 3))
def ta_EqN (K : Nat → Nat) (xK xP yT : Nat → Int32) (top : Nat) (V : Nat → Prop) (rs φ : Nat → Nat) (t : Nat) : Prop :=
  xK (t / 3) = nI (K (t / 3)) ∧ φ t < top ∧ yT (5 * φ t) = nI (K (t / 3)) ∧
  (∀ j, j < K (t / 3) - 2 → ta_EqW K xK xP yT V rs φ t j) ∧
  (K (t / 3) = 3 ∨ K (t / 3) = 5 → ta_EqT K xP yT V rs φ t) ∧
  (∀ j, j < 4 → K (t / 3) - 2 ≤ j → ¬ (j = K (t / 3) - 2 ∧ (K (t / 3) = 3 ∨ K (t / 3) = 5)) → yT (5 * φ t + 1 + j) = ta_m)
def ta_EQ (K : Nat → Nat) (xK xP xB yT : Nat → Int32) (top : Nat) (V : Nat → Prop) (rs φ : Nat → Nat) : Prop :=
  (∀ i, K i ≤ 5) ∧ (∀ t, V t → t < 96 ∧ V (rs t) ∧ φ (rs t) = φ t ∧ ¬ (rs t / 3 = 1 ∧ rs t % 3 ≠ 0)) ∧
  (∀ t, V t → (t / 3 = 1 → t % 3 ≠ 0 → xB (t % 3) = nI (rs t)) ∧ (¬ (t / 3 = 1 ∧ t % 3 ≠ 0) → rs t = t)) ∧
  (∀ t, V t → rs t = t → ta_EqN K xK xP yT top V rs φ t) ∧ ta_Can yT top ∧ top ≤ 128
theorem ta_rsrs (E : ta_EQ K xK xP xB yT top V rs φ) {t : Nat} (h : V t) : rs (rs t) = rs t :=
  (E.2.2.1 _ (E.2.1 t h).2.1).2 (E.2.1 t h).2.2.2
theorem ta_xres (E : ta_EQ K xK xP xB yT top V rs φ) {t : Nat} (h : V t) {post : Int32 → Prop} (hp : post (nI (rs t))) :
    wpX_resolve post (xmN, xmL, xmD, xmT, xnc, xlc, xbc, xvd, xel, xkd, xke, xqd, xst, xat, xpc, xdp, xtp, xK, xP, xL, xbt, xbf, xR, xB, xQ, xS, xt, xv) (nI t) := by
  refine ⟨0 + 1 + 1 + 1, ?_⟩
  have h1 := (E.2.1 t h).1
  have h2 := (E.2.1 t h).2.2.2
  have h3 := (E.2.1 _ (E.2.1 t h).2.1).1
  have h4 := E.2.2.1 t h
  have fin : ∀ n, wX_resolve_4 post xmN xmL xmD xmT xnc xlc xbc xvd xel xkd xke xqd xst xat xpc xdp xtp xK xP xL xbt xbf xR xB xQ xS xt xv (n + 1) (nI (rs t)) (nI 2) := by
    intro n
    rw [wX_resolve_4]
    exact br_t (nI_le (a := 2) (b := 2) (by omega) (by omega)) hp
  have mid : ∀ n, wX_resolve_4 post xmN xmL xmD xmT xnc xlc xbc xvd xel xkd xke xqd xst xat xpc xdp xtp xK xP xL xbt xbf xR xB xQ xS xt xv (n + 1 + 1) (nI (rs t)) (nI 1) := by
    intro n
    rw [wX_resolve_4]
    refine br_f (nI_ge (a := 1) (b := 2) (by omega) (by omega)) ⟨by decide, ?_⟩
    rw [ta_q3 (by omega), ta_d3 (by omega)]
    refine pk_eq (rs t / 3) 1 (fun c => ⟨by decide, ?_⟩) (fun c => nm_e (fin n))
    exact pk_eq (rs t % 3) 0 (fun c2 => nm_e (fin n)) (fun c2 => absurd ⟨c, c2⟩ h2)
  rw [wX_resolve_4]
  refine br_f (nI_ge (a := 0) (b := 2) (by omega) (by omega)) ⟨by decide, ?_⟩
  rw [ta_q3 (by omega), ta_d3 (by omega)]
  refine pk_eq (t / 3) 1 (fun c => ⟨by decide, ?_⟩) (fun c => nm_e ?_)
  · refine pk_eq (t % 3) 0 (fun c2 => nm_e ?_) (fun c2 => ⟨by decide, ta_vi (by omega), ?_⟩)
    · have := mid 0
      rw [h4.2 (fun z => z.2 c2)] at this
      exact this
    · rw [nI_clamp (by omega), h4.1 c c2]
      exact nm_e (nm_e (mid 0))
  · have := mid 0
    rw [h4.2 (fun z => c z.1)] at this
    exact this
theorem ta_xwt (hK : ∀ i, K i ≤ 5) {w e : Nat} (hw : w < 128) (he : e < 3) (hk : xK (w / 4) = nI (K (w / 4))) {post : Int32 → Prop} (hp : post (nI (ta_wt K w e))) :
    wpX_wordTerm post (xmN, xmL, xmD, xmT, xnc, xlc, xbc, xvd, xel, xkd, xke, xqd, xst, xat, xpc, xdp, xtp, xK, xP, xL, xbt, xbf, xR, xB, xQ, xS, xt, xv) (nI w) (nI e) := by
  have k5 := hK (w / 4)
  unfold wpX_wordTerm
  unfold ta_wt at hp
  have c3 : w / 4 < 32 := by omega
  rw [ta_d4 (by omega), ta_a3 (by omega)]
  refine ⟨by decide, nm_e ?_⟩
  rw [nI_clamp (by omega), hk]
  refine ⟨ta_vi c3, pk_eq (K (w / 4)) 5 (fun c => ?_) (fun c => ?_)⟩
  · refine pk_eq (w % 4) 1 (fun c2 => ?_) (fun c2 => ?_)
    · rw [if_pos ⟨c, c2⟩] at hp
      unfold wX_wordTerm_26
      rw [ta_3]
      exact br_f (by decide) hp
    · rw [if_neg (fun z => c2 z.2)] at hp
      unfold wX_wordTerm_25 wX_wordTerm_26
      rw [ta_3, nI_add]
      exact br_t rfl hp
  · rw [if_neg (fun z => c z.1)] at hp
    unfold wX_wordTerm_25 wX_wordTerm_26
    rw [ta_3, nI_add]
    exact br_t rfl hp
end
end
section
/-! the queue of pairs -/
section
variable {xmN xmL xmD xmT xnc xlc xbc xvd xel xkd xke xqd xst xat xpc xdp xtp : Int32} {xK xP xL xbt xbf xR xB xQ xS xt xv : Nat → Int32}
variable {K : Nat → Nat} {yT : Nat → Int32} {top : Nat} {V : Nat → Prop} {rs φ : Nat → Nat}
def ta_QI (V : Nat → Prop) (rs φ : Nat → Nat) (c : Prop) (L : List Nat) (xQ xS : Nat → Int32) : Prop :=
  L.length ≤ 9216 ∧ L.Nodup ∧ (∀ i p, L[i]? = some p → xQ i = nI p) ∧ (∀ p, p ∈ L → xS p = nI 1) ∧ (∀ p, ¬ p ∈ L → xS p = nI 0) ∧
  (∀ p, p ∈ L → p < 9216 ∧ V (p / 96) ∧ V (p % 96) ∧ rs (p / 96) = p / 96 ∧ rs (p % 96) = p % 96 ∧ (c → φ (p / 96) = φ (p % 96)))
def ta_Hy (φ : Nat → Nat) (L : List Nat) (R : Nat) : Prop := ∀ p, p ∈ L → ta_rk (p / 96) < R → φ (p / 96) = φ (p % 96)
theorem ta_Hy_mono {L M : List Nat} {R : Nat} (h : ta_Hy φ (L ++ M) R) : ta_Hy φ L R := fun p hp => h p (List.mem_append_left M hp)
theorem ta_phi_lt (E : ta_EQ K xK xP xB yT top V rs φ) {t : Nat} (h : V t) : φ t < top := by
  have a := (E.2.1 t h).2.2.1
  have b := (E.2.2.2.1 (rs t) (E.2.1 t h).2.1 (ta_rsrs E h)).2.1
  rw [a] at b
  exact b
theorem ta_enq (E : ta_EQ K xK xP xB yT top V rs φ) {ta tb : Nat} (ha : V ta) (hb : V tb) {c : Prop} (hc : c → φ ta = φ tb) {L : List Nat} (Q : ta_QI V rs φ c L xQ xS) :
    ∃ (L' : List Nat) (xQ' xS' : Nat → Int32), ta_QI V rs φ c L' xQ' xS' ∧ (∃ M, L' = L ++ M) ∧ (∀ R, ta_rk (rs ta) < R → ta_Hy φ L' R → φ ta = φ tb) ∧
      ∀ {xmN xmL xmD xmT xnc xlc xbc xvd xel xkd xke xst xat xpc xdp xtp : Int32} {xL xbt xbf xR xt xv : Nat → Int32} (post : SX → Prop), post (xmN, xmL, xmD, xmT, xnc, xlc, xbc, xvd, xel, xkd, xke, nI L'.length, xst, xat, xpc, xdp, xtp, xK, xP, xL, xbt, xbf, xR, xB, xQ', xS', xt, xv) → wpX_enqueue post (xmN, xmL, xmD, xmT, xnc, xlc, xbc, xvd, xel, xkd, xke, nI L.length, xst, xat, xpc, xdp, xtp, xK, xP, xL, xbt, xbf, xR, xB, xQ, xS, xt, xv) (nI ta) (nI tb) := by
  have a1 := (E.2.1 _ (E.2.1 ta ha).2.1).1
  have b1 := (E.2.1 _ (E.2.1 tb hb).2.1).1
  have fa := (E.2.1 ta ha).2.2.1
  have fb := (E.2.1 tb hb).2.2.1
  have va := (E.2.1 ta ha).2.1
  have vb := (E.2.1 tb hb).2.1
  have ra := ta_rsrs E ha
  have rb := ta_rsrs E hb
  have ql := Q.1
  by_cases h : rs ta = rs tb
  · refine ⟨L, xQ, xS, Q, ⟨[], by simp⟩, fun R _ _ => by rw [← fa, ← fb, h], fun post hp => ?_⟩
    unfold wpX_enqueue
    refine ta_xres E ha ?_
    refine ta_xres E hb ?_
    exact nm_e (br_t (congrArg nI h) hp)
  · have hn : ¬ nI (rs ta) = nI (rs tb) := by rw [nI_eq (by omega) (by omega)]; exact h
    have d1 : (rs ta * 96 + rs tb) / 96 = rs ta := by omega
    have d2 : (rs ta * 96 + rs tb) % 96 = rs tb := by omega
    have d3 : rs ta * 96 + rs tb < 9216 := by omega
    generalize hp : rs ta * 96 + rs tb = p at *
    have en : nI (rs ta) * 96 + nI (rs tb) = nI p := by
      rw [ta_l96, pk_mul, nI_add, hp]
    by_cases hin : p ∈ L
    · refine ⟨L, xQ, xS, Q, ⟨[], by simp⟩, fun R h1 h2 => ?_, fun post hp => ?_⟩
      · have := h2 p hin (by rw [d1]; exact h1)
        rw [d1, d2, fa, fb] at this
        exact this
      · unfold wpX_enqueue
        refine ta_xres E ha ?_
        refine ta_xres E hb ?_
        refine nm_r en (br_f hn ⟨pk_in p 9216 d3, br_f ?_ hp⟩)
        rw [nI_clamp (by omega), Q.2.2.2.1 p hin]
        decide
    · have hl : L.length < 9216 := by
        rcases Nat.lt_or_ge L.length 9216 with g | g
        · exact g
        · exact absurd (covers_all 9216 L Q.2.1 (fun x hx => (Q.2.2.2.2.2 x hx).1) (by omega) p d3) hin
      refine ⟨L ++ [p], upd xQ L.length (nI p), upd xS p (nI 1), ?_, ⟨[p], rfl⟩, fun R h1 h2 => ?_, fun post hpp => ?_⟩
      · refine ⟨by rw [List.length_append]; exact hl, ta_nodup_app Q.2.1 hin, ?_, ?_, ?_, ?_⟩
        · intro i q hq
          rw [List.getElem?_append] at hq
          by_cases hi : i < L.length
          · rw [if_pos hi] at hq
            rw [pk_un (by omega)]
            exact Q.2.2.1 i q hq
          · rw [if_neg hi] at hq
            have hi2 : i = L.length := by
              rcases Nat.lt_or_ge (i - L.length) 1 with g | g
              · omega
              · rw [List.getElem?_eq_none (by simpa using g)] at hq
                exact absurd hq (by simp)
            subst hi2
            rw [pk_us]
            simp at hq
            rw [hq]
        · intro q hq
          by_cases e : q = p
          · subst e; rw [pk_us]
          · rw [pk_un e]
            refine Q.2.2.2.1 q ?_
            rcases List.mem_append.mp hq with g | g
            · exact g
            · exact absurd (List.mem_singleton.mp g) e
        · intro q hq
          have e : q ≠ p := fun e => hq (List.mem_append_right _ (List.mem_singleton.mpr e))
          rw [pk_un e]
          exact Q.2.2.2.2.1 q (fun g => hq (List.mem_append_left _ g))
        · intro q hq
          rcases List.mem_append.mp hq with g | g
          · exact Q.2.2.2.2.2 q g
          · rw [List.mem_singleton.mp g, d1, d2]
            exact ⟨d3, va, vb, ra, rb, fun hcc => by rw [fa, fb]; exact hc hcc⟩
      · have := h2 p (List.mem_append_right _ (List.mem_singleton.mpr rfl)) (by rw [d1]; exact h1)
        rw [d1, d2, fa, fb] at this
        exact this
      · unfold wpX_enqueue
        refine ta_xres E ha ?_
        refine ta_xres E hb ?_
        have z0 : xS p = 0 := Q.2.2.2.2.1 p hin
        have hq : ¬ (9216 : Int32) ≤ nI L.length := nI_ge (b := 9216) hl (by decide)
        refine nm_r en (br_f hn ⟨pk_in p 9216 d3, br_t ?_ (br_f hq ⟨pk_in p 9216 d3, nm_e ⟨pk_in L.length 9216 hl, nm_e (nm_e ?_)⟩⟩)⟩)
        · rw [nI_clamp (by omega)]; exact z0
        · rw [List.length_append] at hpp
          rw [nI_clamp (by omega), nI_clamp (by omega), nI_1]
          exact hpp
theorem ta_sw (E : ta_EQ K xK xP xB yT top V rs φ) {a b j : Nat} (Wa : ta_EqW K xK xP yT V rs φ a j) (Wb : ta_EqW K xK xP yT V rs φ b j) {c : Prop}
    (hc : c → yT (5 * φ a + 1 + j) = yT (5 * φ b + 1 + j)) {L : List Nat} (Q : ta_QI V rs φ c L xQ xS) :
    ∃ (r : Int32) (L' : List Nat) (xQ' xS' : Nat → Int32), ta_QI V rs φ c L' xQ' xS' ∧ (∃ M, L' = L ++ M) ∧
      ((r = nI 1 ∧ (ta_Hy φ L' (ta_rk a) → yT (5 * φ a + 1 + j) = yT (5 * φ b + 1 + j))) ∨ (r = nI 0 ∧ ¬ yT (5 * φ a + 1 + j) = yT (5 * φ b + 1 + j))) ∧
      ∀ {xmN xmL xmD xmT xnc xlc xbc xvd xel xkd xke xst xat xpc xdp xtp : Int32} {xL xbt xbf xR xt xv : Nat → Int32} (post : Int32 → SX → Prop), post r (xmN, xmL, xmD, xmT, xnc, xlc, xbc, xvd, xel, xkd, xke, nI L'.length, xst, xat, xpc, xdp, xtp, xK, xP, xL, xbt, xbf, xR, xB, xQ', xS', xt, xv) → wpX_sameWord post (xmN, xmL, xmD, xmT, xnc, xlc, xbc, xvd, xel, xkd, xke, nI L.length, xst, xat, xpc, xdp, xtp, xK, xP, xL, xbt, xbf, xR, xB, xQ, xS, xt, xv) (xP (4 * (a / 3) + j)) (nI (a % 3)) (xP (4 * (b / 3) + j)) (nI (b % 3)) := by
  have ht := E.2.2.2.2.2
  rcases Wa with ⟨pa, sa⟩ | ⟨w, hw, pa, ka, va, la, sa⟩
  · rcases Wb with ⟨pb, sb⟩ | ⟨w', hw', pb, kb, vb, lb, sb⟩
    · refine ⟨nI 1, L, xQ, xS, Q, ⟨[], by simp⟩, Or.inl ⟨rfl, fun _ => by rw [sa, sb]⟩, fun post hp => ?_⟩
      rw [pa, pb]
      exact br_t (show ta_m < 0 from by decide) (br_t rfl hp)
    · have lt := ta_phi_lt E vb
      refine ⟨nI 0, L, xQ, xS, Q, ⟨[], by simp⟩, Or.inr ⟨rfl, ?_⟩, fun post hp => ?_⟩
      · rw [sa, sb]; exact fun z => ta_mneg (by omega) z.symm
      · rw [pa, pb]
        exact br_t (show ta_m < 0 from by decide) (br_f (fun z => ta_mneg (by omega) z.symm) hp)
  · have lt := ta_phi_lt E va
    rcases Wb with ⟨pb, sb⟩ | ⟨w', hw', pb, kb, vb, lb, sb⟩
    · refine ⟨nI 0, L, xQ, xS, Q, ⟨[], by simp⟩, Or.inr ⟨rfl, ?_⟩, fun post hp => ?_⟩
      · rw [sa, sb]; exact fun z => ta_mneg (by omega) z
      · rw [pa, pb]
        exact br_f (nI_pos (by omega)) (br_f (show ¬ 0 ≤ ta_m from by decide) (br_f (fun z => ta_mneg (by omega) z) hp))
    · have lt' := ta_phi_lt E vb
      have e3 : nI w &&& 3 = nI (w % 4) := ta_and3 (by omega)
      have e3' : nI w' &&& 3 = nI (w' % 4) := ta_and3 (by omega)
      by_cases hm : w % 4 = w' % 4
      · obtain ⟨L', xQ', xS', Q', X', H', G'⟩ := ta_enq E va vb (c := c) (by
          intro z
          have := hc z
          rw [sa, sb, nI_eq (by omega) (by omega)] at this
          omega) Q
        refine ⟨nI 1, L', xQ', xS', Q', X', Or.inl ⟨rfl, fun hy => ?_⟩, fun post hp => ?_⟩
        · rw [sa, sb, H' _ la hy, hm]
        · rw [pa, pb]
          refine br_f (nI_pos (by omega)) (br_t (nI_pos' (by omega)) (br_t (by rw [e3, e3', hm]) ?_))
          refine ta_xwt E.1 hw (Nat.mod_lt _ (by decide)) ka ?_
          refine ta_xwt E.1 hw' (Nat.mod_lt _ (by decide)) kb ?_
          exact G' _ hp
      · refine ⟨nI 0, L, xQ, xS, Q, ⟨[], by simp⟩, Or.inr ⟨rfl, ?_⟩, fun post hp => ?_⟩
        · rw [sa, sb, nI_eq (by omega) (by omega)]
          omega
        · rw [pa, pb]
          refine br_f (nI_pos (by omega)) (br_t (nI_pos' (by omega)) (br_f ?_ hp))
          rw [e3, e3', nI_eq (by omega) (by omega)]
          exact hm
end
end
section
/-! samePair and equal -/
section
variable {xmN xmL xmD xmT xnc xlc xbc xvd xel xkd xke xqd xst xat xpc xdp xtp : Int32} {xK xP xL xbt xbf xR xB xQ xS xt xv : Nat → Int32}
variable {K : Nat → Nat} {yT : Nat → Int32} {top : Nat} {V : Nat → Prop} {rs φ : Nat → Nat}
/-- slots alike: one node -/
theorem ta_slots (E : ta_EQ K xK xP xB yT top V rs φ) {a b : Nat} (va : V a) (ra : rs a = a) (vb : V b) (rb : rs b = b) (hk : K (a / 3) = K (b / 3))
    (hw : ∀ j, j < K (a / 3) - 2 → yT (5 * φ a + 1 + j) = yT (5 * φ b + 1 + j))
    (ht : K (a / 3) = 3 ∨ K (a / 3) = 5 → yT (5 * φ a + 1 + (K (a / 3) - 2)) = yT (5 * φ b + 1 + (K (a / 3) - 2))) : φ a = φ b := by
  have na := E.2.2.2.1 a va ra
  have nb := E.2.2.2.1 b vb rb
  refine E.2.2.2.2.1 _ _ na.2.1 nb.2.1 (fun j hj => ?_)
  rcases Nat.eq_zero_or_pos j with h0 | h0
  · subst h0
    exact na.2.2.1.trans (by rw [hk]; exact nb.2.2.1.symm)
  · obtain ⟨i, rfl⟩ : ∃ i, j = 1 + i := ⟨j - 1, by omega⟩
    rw [← Nat.add_assoc, ← Nat.add_assoc]
    by_cases h1 : i < K (a / 3) - 2
    · exact hw i h1
    · by_cases h2 : i = K (a / 3) - 2 ∧ (K (a / 3) = 3 ∨ K (a / 3) = 5)
      · rw [h2.1]; exact ht h2.2
      · rw [na.2.2.2.2.2 i (by omega) (by omega) h2, nb.2.2.2.2.2 i (by omega) (by omega) (by rw [← hk]; exact h2)]
/-- what samePair answers -/
def ta_SPo (φ : Nat → Nat) (a b : Nat) (r : Int32) (L : List Nat) : Prop := (r = nI 1 ∧ (ta_Hy φ L (ta_rk a) → φ a = φ b)) ∨ (r = nI 0 ∧ ¬ φ a = φ b)
theorem ta_sp52 (E : ta_EQ K xK xP xB yT top V rs φ) {a b : Nat} (va : V a) (ra : rs a = a) (vb : V b) (rb : rs b = b) (hk : K (a / 3) = K (b / 3)) {c : Prop} (hc : c → φ a = φ b) :
    ∀ (d j : Nat) (L : List Nat) (xQ xS : Nat → Int32), j + d = K (a / 3) - 2 → ta_QI V rs φ c L xQ xS →
      (ta_Hy φ L (ta_rk a) → ∀ i, i < j → yT (5 * φ a + 1 + i) = yT (5 * φ b + 1 + i)) →
      ∃ (r : Int32) (L' : List Nat) (xQ' xS' : Nat → Int32), ta_QI V rs φ c L' xQ' xS' ∧ (∃ M, L' = L ++ M) ∧ ta_SPo φ a b r L' ∧
        ∀ {xmN xmL xmD xmT xnc xlc xbc xvd xel xkd xke xst xat xpc xdp xtp : Int32} {xL xbt xbf xR xt xv : Nat → Int32} (post : Int32 → SX → Prop), post r (xmN, xmL, xmD, xmT, xnc, xlc, xbc, xvd, xel, xkd, xke, nI L'.length, xst, xat, xpc, xdp, xtp, xK, xP, xL, xbt, xbf, xR, xB, xQ', xS', xt, xv) →
          wX_samePair_52 post (nI a) (nI b) (nI (a / 3)) (nI (b / 3)) (nI (K (a / 3))) (nI (K (a / 3) - 2)) (d + 1) (nI j) xmN xmL xmD xmT xnc xlc xbc xvd xel xkd xke (nI L.length) xst xat xpc xdp xtp xK xP xL xbt xbf xR xB xQ xS xt xv := by
  have a96 := (E.2.1 a va).1
  have b96 := (E.2.1 b vb).1
  have k5 := E.1 (a / 3)
  have na := E.2.2.2.1 a va ra
  have nb := E.2.2.2.1 b vb rb
  intro d
  induction d with
  | zero =>
    intro j L xQ xS hj Q acc
    have hj2 : j = K (a / 3) - 2 := by omega
    by_cases ht : K (a / 3) = 3 ∨ K (a / 3) = 5
    · obtain ⟨ca, ca1, ca2, ca3, ca4, ca5⟩ := na.2.2.2.2.1 ht
      obtain ⟨cb, cb1, cb2, cb3, cb4, cb5⟩ := nb.2.2.2.2.1 (by rw [← hk]; exact ht)
      rw [← hk] at cb2 cb5
      have pa := ta_phi_lt E ca3
      have pb := ta_phi_lt E cb3
      have t128 := E.2.2.2.2.2
      obtain ⟨L', xQ', xS', Q', ⟨M, X'⟩, H', G'⟩ := ta_enq E ca3 cb3 (c := c) (by
        intro z
        have h := hc z
        rw [h] at ca5
        rw [ca5, nI_eq (by omega) (by omega)] at cb5
        exact cb5) Q
      refine ⟨nI 1, L', xQ', xS', Q', ⟨M, X'⟩, Or.inl ⟨rfl, fun hy => ?_⟩, fun {xmN xmL xmD xmT xnc xlc xbc xvd xel xkd xke xst xat xpc xdp xtp : Int32} {xL xbt xbf xR xt xv : Nat → Int32} post hp => ?_⟩
      · refine ta_slots E va ra vb rb hk (fun i hi => acc (ta_Hy_mono (by rw [← X']; exact hy)) i (by omega)) (fun _ => ?_)
        rw [ca5, cb5, H' _ ca4 hy]
      · have fin : wX_samePair_115 post (nI a) (nI b) (nI (a / 3)) (nI (b / 3)) (nI (K (a / 3) - 2)) xmN xmL xmD xmT xnc xlc xbc xvd xel xkd xke (nI L.length) xst xat xpc xdp xtp xK xP xL xbt xbf xR xB xQ xS xt xv := by
          unfold wX_samePair_115
          have i1 : 4 * (a / 3) + (K (a / 3) - 2) < 128 := by omega
          have i2 : 4 * (b / 3) + (K (a / 3) - 2) < 128 := by omega
          simp (disch := omega) only [forall_eq, true_imp_iff, false_imp_iff, not_true_eq_false, not_false_eq_true, and_true, true_and, and_self, implies_true, Nat.reduceEqDiff, Nat.reduceAdd, Nat.reduceMul, ta_l0, ta_l1, ta_l2, ta_l3, ta_l4, ta_l5, ta_l6, ta_l7, ta_l8, ta_l9, ta_l10, ta_l11, ta_l12, ta_l13, ta_l14, ta_l23, ta_l24, ta_l27, ta_l28, ta_l32, ta_l96, ta_l128, ta_l200, ta_l9216, ta_mI, nI_add, pk_mul, pk_sub, pk_div, ta_r3, ta_r96, ta_and3, ta_sh2, nI_clamp, nI_leI, nI_ltI, nI_eq, ta_in, ta_mlt, ta_mle, ta_meq, ta_eqm, ta_nb0, ta_nb1, ta_nw0, ta_nw1, i1, i2, ca2, cb2]
          exact G' _ hp
        rw [wX_samePair_52]
        refine br_t (nI_le (by omega) (by omega)) ?_
        rcases ht with ht | ht
        · exact br_t (congrArg nI ht) fin
        · exact br_f (by rw [ht]; decide) (br_t (congrArg nI ht) fin)
    · refine ⟨nI 1, L, xQ, xS, Q, ⟨[], by simp⟩, Or.inl ⟨rfl, fun hy => ?_⟩, fun post hp => ?_⟩
      · exact ta_slots E va ra vb rb hk (fun i hi => acc hy i (by omega)) (fun z => absurd z ht)
      · rw [wX_samePair_52]
        have k3 : ¬ nI (K (a / 3)) = 3 := fun z => ht (Or.inl ((nI_eq (by omega) (by omega)).mp (z.trans ta_l3)))
        have k55 : ¬ nI (K (a / 3)) = 5 := fun z => ht (Or.inr ((nI_eq (by omega) (by omega)).mp (z.trans ta_l5)))
        exact br_t (nI_le (by omega) (by omega)) (br_f k3 (br_f k55 hp))
  | succ d ih =>
    intro j L xQ xS hj Q acc
    have Wa := na.2.2.2.1 j (by omega)
    have Wb := nb.2.2.2.1 j (by omega)
    obtain ⟨r, L1, xQ1, xS1, Q1, ⟨M1, X1⟩, R1, G1⟩ := ta_sw E Wa Wb (c := c) (fun z => by rw [hc z]) Q
    have walk : ∀ {xmN xmL xmD xmT xnc xlc xbc xvd xel xkd xke xst xat xpc xdp xtp : Int32} {xL xbt xbf xR xt xv : Nat → Int32} (post : Int32 → SX → Prop),
        ((r = 0 → post 0 (xmN, xmL, xmD, xmT, xnc, xlc, xbc, xvd, xel, xkd, xke, nI L1.length, xst, xat, xpc, xdp, xtp, xK, xP, xL, xbt, xbf, xR, xB, xQ1, xS1, xt, xv)) ∧ (¬ r = 0 → wX_samePair_52 post (nI a) (nI b) (nI (a / 3)) (nI (b / 3)) (nI (K (a / 3))) (nI (K (a / 3) - 2)) (d + 1) (nI (j + 1)) xmN xmL xmD xmT xnc xlc xbc xvd xel xkd xke (nI L1.length) xst xat xpc xdp xtp xK xP xL xbt xbf xR xB xQ1 xS1 xt xv)) →
        wX_samePair_52 post (nI a) (nI b) (nI (a / 3)) (nI (b / 3)) (nI (K (a / 3))) (nI (K (a / 3) - 2)) (d + 1 + 1) (nI j) xmN xmL xmD xmT xnc xlc xbc xvd xel xkd xke (nI L.length) xst xat xpc xdp xtp xK xP xL xbt xbf xR xB xQ xS xt xv := by
      intros
      rename_i post hpp
      rw [wX_samePair_52]
      refine br_f (nI_ge (by omega) (by omega)) ?_
      have i1 : 4 * (a / 3) + j < 128 := by omega
      have i2 : 4 * (b / 3) + j < 128 := by omega
      simp (disch := omega) only [ta_l3, ta_l4, nI_add, pk_mul, pk_div, pk_sub, ta_r3, nI_clamp, ta_in, i1, i2, true_and]
      refine ⟨by decide, by decide, G1 _ ?_⟩
      refine ⟨hpp.1, fun z => nm_r (nI_1 j) (hpp.2 z)⟩
    rcases R1 with ⟨r1, R1⟩ | ⟨r0, R1⟩
    · obtain ⟨r', L', xQ', xS', Q', ⟨M', X'⟩, R', G'⟩ := ih (j + 1) L1 xQ1 xS1 (by omega) Q1 (by
        intro hy i hi
        rcases Nat.lt_or_ge i j with g | g
        · exact acc (ta_Hy_mono (by rw [← X1]; exact hy)) i g
        · have : i = j := by omega
          subst this
          exact R1 hy)
      refine ⟨r', L', xQ', xS', Q', ⟨M1 ++ M', by rw [X', X1, List.append_assoc]⟩, R', fun post hp => ?_⟩
      exact walk post ⟨fun z => absurd z (by rw [r1]; decide), fun _ => G' post hp⟩
    · refine ⟨nI 0, L1, xQ1, xS1, Q1, ⟨M1, X1⟩, Or.inr ⟨rfl, fun z => R1 (by rw [z])⟩, fun post hp => ?_⟩
      exact walk post ⟨fun _ => hp, fun z => absurd r0 z⟩
theorem ta_spair (E : ta_EQ K xK xP xB yT top V rs φ) {a b : Nat} (va : V a) (ra : rs a = a) (vb : V b) (rb : rs b = b) {c : Prop} (hc : c → φ a = φ b)
    {L : List Nat} (Q : ta_QI V rs φ c L xQ xS) :
    ∃ (r : Int32) (L' : List Nat) (xQ' xS' : Nat → Int32), ta_QI V rs φ c L' xQ' xS' ∧ (∃ M, L' = L ++ M) ∧ ta_SPo φ a b r L' ∧
        ∀ {xmN xmL xmD xmT xnc xlc xbc xvd xel xkd xke xst xat xpc xdp xtp : Int32} {xL xbt xbf xR xt xv : Nat → Int32} (post : Int32 → SX → Prop), post r (xmN, xmL, xmD, xmT, xnc, xlc, xbc, xvd, xel, xkd, xke, nI L'.length, xst, xat, xpc, xdp, xtp, xK, xP, xL, xbt, xbf, xR, xB, xQ', xS', xt, xv) → wpX_samePair post (xmN, xmL, xmD, xmT, xnc, xlc, xbc, xvd, xel, xkd, xke, nI L.length, xst, xat, xpc, xdp, xtp, xK, xP, xL, xbt, xbf, xR, xB, xQ, xS, xt, xv) (nI a) (nI b) := by
  have a96 := (E.2.1 a va).1
  have b96 := (E.2.1 b vb).1
  have k5 := E.1 (a / 3)
  have k5' := E.1 (b / 3)
  have na := E.2.2.2.1 a va ra
  have nb := E.2.2.2.1 b vb rb
  have i1 : a / 3 < 32 := by omega
  have i2 : b / 3 < 32 := by omega
  by_cases hk : K (a / 3) = K (b / 3)
  · obtain ⟨r, L', xQ', xS', Q', X', R', G'⟩ := ta_sp52 E va ra vb rb hk hc (K (a / 3) - 2) 0 L xQ xS (by omega) Q (fun _ i hi => absurd hi (by omega))
    refine ⟨r, L', xQ', xS', Q', X', R', fun post hp => ?_⟩
    unfold wpX_samePair
    by_cases h3 : 3 ≤ K (a / 3)
    · have e : K (a / 3) - 3 + 1 = K (a / 3) - 2 := by omega
      simp (disch := omega) only [forall_eq, true_imp_iff, false_imp_iff, not_true_eq_false, not_false_eq_true, and_true, true_and, and_self, implies_true, Nat.reduceEqDiff, Nat.reduceAdd, Nat.reduceMul, ta_l0, ta_l1, ta_l2, ta_l3, ta_l4, ta_l5, ta_l6, ta_l7, ta_l8, ta_l9, ta_l10, ta_l11, ta_l12, ta_l13, ta_l14, ta_l23, ta_l24, ta_l27, ta_l28, ta_l32, ta_l96, ta_l128, ta_l200, ta_l9216, ta_mI, nI_add, pk_mul, pk_sub, pk_div, ta_r3, ta_r96, ta_and3, ta_sh2, nI_clamp, nI_leI, nI_ltI, nI_eq, ta_in, ta_mlt, ta_mle, ta_meq, ta_eqm, ta_nb0, ta_nb1, ta_nw0, ta_nw1, i1, i2, na.1, nb.1, hk] at e ⊢
      rw [← hk] at e ⊢
      simp (disch := omega) only [forall_eq, true_imp_iff, false_imp_iff, not_true_eq_false, not_false_eq_true, and_true, true_and, and_self, implies_true, Nat.reduceEqDiff, Nat.reduceAdd, Nat.reduceMul, ta_l0, ta_l1, ta_l2, ta_l3, ta_l4, ta_l5, ta_l6, ta_l7, ta_l8, ta_l9, ta_l10, ta_l11, ta_l12, ta_l13, ta_l14, ta_l23, ta_l24, ta_l27, ta_l28, ta_l32, ta_l96, ta_l128, ta_l200, ta_l9216, ta_mI, nI_add, pk_mul, pk_sub, pk_div, ta_r3, ta_r96, ta_and3, ta_sh2, nI_clamp, nI_leI, nI_ltI, nI_eq, ta_in, ta_mlt, ta_mle, ta_meq, ta_eqm, ta_nb0, ta_nb1, ta_nw0, ta_nw1, h3, e]
      exact ⟨_, G' post hp⟩
    · have e : K (a / 3) - 2 = 0 := by omega
      rw [e] at G'
      simp (disch := omega) only [forall_eq, true_imp_iff, false_imp_iff, not_true_eq_false, not_false_eq_true, and_true, true_and, and_self, implies_true, Nat.reduceEqDiff, Nat.reduceAdd, Nat.reduceMul, ta_l0, ta_l1, ta_l2, ta_l3, ta_l4, ta_l5, ta_l6, ta_l7, ta_l8, ta_l9, ta_l10, ta_l11, ta_l12, ta_l13, ta_l14, ta_l23, ta_l24, ta_l27, ta_l28, ta_l32, ta_l96, ta_l128, ta_l200, ta_l9216, ta_mI, nI_add, pk_mul, pk_sub, pk_div, ta_r3, ta_r96, ta_and3, ta_sh2, nI_clamp, nI_leI, nI_ltI, nI_eq, ta_in, ta_mlt, ta_mle, ta_meq, ta_eqm, ta_nb0, ta_nb1, ta_nw0, ta_nw1, i1, i2, na.1, nb.1, hk]
      rw [← hk]
      simp (disch := omega) only [forall_eq, true_imp_iff, false_imp_iff, not_true_eq_false, not_false_eq_true, and_true, true_and, and_self, implies_true, Nat.reduceEqDiff, Nat.reduceAdd, Nat.reduceMul, ta_l0, ta_l1, ta_l2, ta_l3, ta_l4, ta_l5, ta_l6, ta_l7, ta_l8, ta_l9, ta_l10, ta_l11, ta_l12, ta_l13, ta_l14, ta_l23, ta_l24, ta_l27, ta_l28, ta_l32, ta_l96, ta_l128, ta_l200, ta_l9216, ta_mI, nI_add, pk_mul, pk_sub, pk_div, ta_r3, ta_r96, ta_and3, ta_sh2, nI_clamp, nI_leI, nI_ltI, nI_eq, ta_in, ta_mlt, ta_mle, ta_meq, ta_eqm, ta_nb0, ta_nb1, ta_nw0, ta_nw1, h3]
      exact ⟨_, G' post hp⟩
  · refine ⟨nI 0, L, xQ, xS, Q, ⟨[], by simp⟩, Or.inr ⟨rfl, fun z => ?_⟩, fun post hp => ?_⟩
    · have h := na.2.2.1
      rw [z, nb.2.2.1, nI_eq (by omega) (by omega)] at h
      exact hk h.symm
    · unfold wpX_samePair
      simp (disch := omega) only [forall_eq, true_imp_iff, false_imp_iff, not_true_eq_false, not_false_eq_true, and_true, true_and, and_self, implies_true, Nat.reduceEqDiff, Nat.reduceAdd, Nat.reduceMul, ta_l0, ta_l1, ta_l2, ta_l3, ta_l4, ta_l5, ta_l6, ta_l7, ta_l8, ta_l9, ta_l10, ta_l11, ta_l12, ta_l13, ta_l14, ta_l23, ta_l24, ta_l27, ta_l28, ta_l32, ta_l96, ta_l128, ta_l200, ta_l9216, ta_mI, nI_add, pk_mul, pk_sub, pk_div, ta_r3, ta_r96, ta_and3, ta_sh2, nI_clamp, nI_leI, nI_ltI, nI_eq, ta_in, ta_mlt, ta_mle, ta_meq, ta_eqm, ta_nb0, ta_nb1, ta_nw0, ta_nw1, i1, i2, na.1, nb.1, hk]
      exact hp
end
end
section
/-! equal -/
section
variable {xmN xmL xmD xmT xnc xlc xbc xvd xel xkd xke xqd xst xat xpc xdp xtp : Int32} {xK xP xL xbt xbf xR xB xQ xS xt xv : Nat → Int32}
variable {K : Nat → Nat} {yT : Nat → Int32} {top : Nat} {V : Nat → Prop} {rs φ : Nat → Nat}
theorem ta_clean {r : Int32} (hr : r = nI 1 ∨ r = nI 0) {L : List Nat} (hl : L.length ≤ 9216) (hQ : ∀ i p, L[i]? = some p → p < 9216 ∧ xQ i = nI p) :
    ∀ (d i : Nat) (xS : Nat → Int32), i + d = L.length → (∀ p, xS p = nI 0 ∨ ∃ k, i ≤ k ∧ L[k]? = some p) →
      ∀ post : Int32 → SX → Prop, post r (xmN, xmL, xmD, xmT, xnc, xlc, xbc, xvd, xel, xkd, xke, nI L.length, xst, xat, xpc, xdp, xtp, xK, xP, xL, xbt, xbf, xR, xB, xQ, fun _ => 0, xt, xv) → wX_equal_70 post r xmN xmL xmD xmT xnc xlc xbc xvd xel xkd xke (nI L.length) xst xat xpc xdp xtp (d + 1) (nI i) xK xP xL xbt xbf xR xB xQ xS xt xv := by
  have hn : narrow .boolean (.int r) = .int r := by rcases hr with h | h <;> rw [h] <;> rfl
  intro d
  induction d with
  | zero =>
    intro i xS hi H post hp
    rw [wX_equal_70]
    refine br_t (nI_le (by omega) (by omega)) ⟨hn, ?_⟩
    have e : xS = fun _ => 0 := by
      funext p
      rcases H p with h | ⟨k, hk, h⟩
      · exact h
      · rw [List.getElem?_eq_none (by omega)] at h
        exact absurd h (by simp)
    rw [e]
    exact hp
  | succ d ih =>
    intro i xS hi H post hp
    rw [wX_equal_70]
    have hi2 : i < L.length := by omega
    obtain ⟨hp9, eq⟩ := hQ i L[i] (List.getElem?_eq_getElem hi2)
    refine br_f (nI_ge (by omega) (by omega)) ⟨pk_in i 9216 (by omega), ?_, ?_⟩
    · rw [nI_clamp (by omega), eq]; exact ta_vi hp9
    · refine nm_e (nm_r (nI_1 i) ?_)
      rw [nI_clamp (by omega), eq, nI_clamp (by omega)]
      refine ih (i + 1) _ (by omega) (fun p => ?_) post hp
      by_cases e : p = L[i]
      · left; rw [e, pk_us]; rfl
      · rw [pk_un e]
        rcases H p with h | ⟨k, hk, h⟩
        · exact Or.inl h
        · refine Or.inr ⟨k, ?_, h⟩
          rcases Nat.lt_or_ge i k with g | g
          · exact g
          · have : k = i := by omega
            subst this
            rw [List.getElem?_eq_getElem hi2] at h
            exact absurd (Option.some.inj h).symm e
theorem ta_QIclean {c : Prop} {L : List Nat} (Q : ta_QI V rs φ c L xQ xS) : (∀ i p, L[i]? = some p → p < 9216 ∧ xQ i = nI p) ∧ (∀ p, xS p = nI 0 ∨ ∃ k, 0 ≤ k ∧ L[k]? = some p) := by
  refine ⟨fun i p h => ⟨(Q.2.2.2.2.2 p (List.mem_of_getElem? h)).1, Q.2.2.1 i p h⟩, fun p => ?_⟩
  by_cases h : p ∈ L
  · obtain ⟨k, hk⟩ := List.mem_iff_getElem?.mp h
    exact Or.inr ⟨k, Nat.zero_le _, hk⟩
  · exact Or.inl (Q.2.2.2.2.1 p h)
/-- all pairs locally alike: all are alike -/
theorem ta_allEq {L : List Nat} (h : ∀ p, p ∈ L → ta_Hy φ L (ta_rk (p / 96)) → φ (p / 96) = φ (p % 96)) : ∀ R, ta_Hy φ L R := by
  intro R
  induction R with
  | zero => intro p _ hr; exact absurd hr (by omega)
  | succ R ih =>
    intro p hp hr
    exact h p hp (fun q hq hr2 => ih q hq (by omega))
theorem ta_eq16 (E : ta_EQ K xK xP xB yT top V rs φ) {c : Prop} :
    ∀ (d h : Nat) (L : List Nat) (xQ xS : Nat → Int32), h + d = 9216 → ta_QI V rs φ c L xQ xS →
      (∀ i p, i < h → L[i]? = some p → ta_Hy φ L (ta_rk (p / 96)) → φ (p / 96) = φ (p % 96)) →
      ∃ (r : Int32) (L' : List Nat) (xQ' : Nat → Int32), ((r = nI 1 ∧ ∀ R, ta_Hy φ L' R) ∨ (r = nI 0 ∧ ¬ c)) ∧ (∃ M, L' = L ++ M) ∧
        ∀ {xmN xmL xmD xmT xnc xlc xbc xvd xel xkd xke xst xat xpc xdp xtp : Int32} {xL xbt xbf xR xt xv : Nat → Int32} (post : Int32 → SX → Prop), post r (xmN, xmL, xmD, xmT, xnc, xlc, xbc, xvd, xel, xkd, xke, nI L'.length, xst, xat, xpc, xdp, xtp, xK, xP, xL, xbt, xbf, xR, xB, xQ', fun _ => 0, xt, xv) → wX_equal_16 post (d + 1) (nI 1) (nI h) xmN xmL xmD xmT xnc xlc xbc xvd xel xkd xke (nI L.length) xst xat xpc xdp xtp xK xP xL xbt xbf xR xB xQ xS xt xv := by
  intro d
  induction d with
  | zero =>
    intro h L xQ xS hh Q P
    have ql := Q.1
    refine ⟨nI 1, L, xQ, Or.inl ⟨rfl, ta_allEq (fun p hp => ?_)⟩, ⟨[], by simp⟩, fun post hp => ?_⟩
    · obtain ⟨k, hk⟩ := List.mem_iff_getElem?.mp hp
      refine P k p ?_ hk
      rcases Nat.lt_or_ge k L.length with g | g
      · omega
      · rw [List.getElem?_eq_none g] at hk
        exact absurd hk (by simp)
    · rw [wX_equal_16]
      refine br_f (by decide) (br_t (nI_le (by omega) (by omega)) ⟨L.length + 1, ?_⟩)
      exact ta_clean (Or.inl rfl) ql (ta_QIclean Q).1 L.length 0 xS (by omega) (ta_QIclean Q).2 post hp
  | succ d ih =>
    intro h L xQ xS hh Q P
    have ql := Q.1
    by_cases hl : L.length ≤ h
    · refine ⟨nI 1, L, xQ, Or.inl ⟨rfl, ta_allEq (fun p hp => ?_)⟩, ⟨[], by simp⟩, fun post hp => ?_⟩
      · obtain ⟨k, hk⟩ := List.mem_iff_getElem?.mp hp
        refine P k p ?_ hk
        rcases Nat.lt_or_ge k L.length with g | g
        · omega
        · rw [List.getElem?_eq_none g] at hk
          exact absurd hk (by simp)
      · rw [wX_equal_16]
        refine br_f (by decide) (br_t (nI_le (by omega) (by omega)) ⟨L.length + 1, ?_⟩)
        exact ta_clean (Or.inl rfl) ql (ta_QIclean Q).1 L.length 0 xS (by omega) (ta_QIclean Q).2 post hp
    · have hl2 : h < L.length := by omega
      have hg : L[h]? = some L[h] := List.getElem?_eq_getElem hl2
      have eq := Q.2.2.1 h _ hg
      have hm : L[h] ∈ L := List.getElem_mem hl2
      obtain ⟨p9, vp, vq, rp, rq, cp⟩ := Q.2.2.2.2.2 _ hm
      generalize L[h] = p at *
      obtain ⟨r, L1, xQ1, xS1, Q1, ⟨M1, X1⟩, R1, G1⟩ := ta_spair E vp rp vq rq cp Q
      have walk : ∀ {xmN xmL xmD xmT xnc xlc xbc xvd xel xkd xke xst xat xpc xdp xtp : Int32} {xL xbt xbf xR xt xv : Nat → Int32} (post : Int32 → SX → Prop), wX_equal_16 post (d + 1) r (nI (h + 1)) xmN xmL xmD xmT xnc xlc xbc xvd xel xkd xke (nI L1.length) xst xat xpc xdp xtp xK xP xL xbt xbf xR xB xQ1 xS1 xt xv →
          wX_equal_16 post (d + 1 + 1) (nI 1) (nI h) xmN xmL xmD xmT xnc xlc xbc xvd xel xkd xke (nI L.length) xst xat xpc xdp xtp xK xP xL xbt xbf xR xB xQ xS xt xv := by
        intros
        rename_i post hpp
        rw [wX_equal_16]
        refine br_f (by decide) (br_f (nI_ge (by omega) (by omega)) (br_f (nI_ge (b := 9216) (by omega) (by decide)) ⟨pk_in h 9216 (by omega), nm_r (e' := nI p) (by rw [nI_clamp (by omega), eq]) ⟨by decide, by decide, ?_⟩⟩))
        have e1 : nI p / 96 = nI (p / 96) := pk_div (by omega) (by decide) (by decide)
        have e2 : nI p - nI p / 96 * 96 = nI (p % 96) := pk_rem (by omega) (by decide) (by decide)
        rw [e2, e1]
        exact G1 _ (nm_r (nI_1 h) hpp)
      rcases R1 with ⟨r1, R1⟩ | ⟨r0, R1⟩
      · obtain ⟨r', L', xQ', R', ⟨M', X'⟩, G'⟩ := ih (h + 1) L1 xQ1 xS1 (by omega) Q1 (by
          intro i q hi hq hy
          rw [X1] at hq hy
          rw [List.getElem?_append_left (by omega)] at hq
          rcases Nat.lt_or_ge i h with g | g
          · exact P i q g hq (ta_Hy_mono hy)
          · have : i = h := by omega
            subst this
            rw [hg] at hq
            have := Option.some.inj hq
            subst this
            rw [← X1] at hy
            exact R1 hy)
        refine ⟨r', L', xQ', R', ⟨M1 ++ M', by rw [X', X1, List.append_assoc]⟩, fun post hp => ?_⟩
        exact walk post (by rw [r1]; exact G' post hp)
      · refine ⟨nI 0, L1, xQ1, Or.inr ⟨rfl, fun z => R1 (cp z)⟩, ⟨M1, X1⟩, fun post hp => walk post ?_⟩
        rw [r0, wX_equal_16]
        refine br_t rfl ⟨L1.length + 1, ?_⟩
        exact ta_clean (Or.inr rfl) Q1.1 (ta_QIclean Q1).1 L1.length 0 xS1 (by omega) (ta_QIclean Q1).2 post hp
theorem ta_equal (E : ta_EQ K xK xP xB yT top V rs φ) {a b : Nat} (va : V a) (vb : V b) (xQ : Nat → Int32) :
    ∃ (q : Int32) (xQ' : Nat → Int32), ∀ {xmN xmL xmD xmT xnc xlc xbc xvd xel xkd xke xqd xst xat xpc xdp xtp : Int32} {xL xbt xbf xR xt xv : Nat → Int32} (post : Int32 → SX → Prop),
      post (nI (if φ a = φ b then 1 else 0)) (xmN, xmL, xmD, xmT, xnc, xlc, xbc, xvd, xel, xkd, xke, q, xst, xat, xpc, xdp, xtp, xK, xP, xL, xbt, xbf, xR, xB, xQ', fun _ => 0, xt, xv) → wpX_equal post (xmN, xmL, xmD, xmT, xnc, xlc, xbc, xvd, xel, xkd, xke, xqd, xst, xat, xpc, xdp, xtp, xK, xP, xL, xbt, xbf, xR, xB, xQ, fun _ => 0, xt, xv) (nI a) (nI b) := by
  have Q0 : ta_QI V rs φ (φ a = φ b) [] xQ (fun _ => 0) := by
    refine ⟨by simp, by simp, fun i p h => ?_, fun p h => ?_, fun p _ => rfl, fun p h => ?_⟩
    · simp at h
    · simp at h
    · simp at h
  obtain ⟨L1, xQ1, xS1, Q1, _, H1, G1⟩ := ta_enq E va vb (c := φ a = φ b) (fun z => z) Q0
  obtain ⟨r, L2, xQ2, R2, ⟨M, X2⟩, G2⟩ := ta_eq16 E (c := φ a = φ b) 9216 0 L1 xQ1 xS1 (by omega) Q1 (fun i p hi => absurd hi (by omega))
  have er : nI (if φ a = φ b then 1 else 0) = r := by
    rcases R2 with ⟨r1, R2⟩ | ⟨r0, R2⟩
    · have : φ a = φ b := H1 (ta_rk (rs a) + 1) (Nat.lt_succ_self _) (ta_Hy_mono (by rw [← X2]; exact R2 _))
      rw [if_pos this, r1]
    · rw [if_neg R2, r0]
  refine ⟨nI L2.length, xQ2, ?_⟩
  intros
  rename_i post hp
  rw [er] at hp
  unfold wpX_equal
  exact G1 _ ⟨_, G2 post hp⟩
end
end
section
/-! Y's join: finds or appends a node -/
section
variable {ync ytop ybc ylc yvd yel yst yat ypc ydp ytp ykd yke ymN ymL ymD ymT : Int32} {yT yI yW yL ybt ybf yt yv : Nat → Int32}
theorem ta_least {P : Nat → Prop} : ∀ n, P n → ∃ m, m ≤ n ∧ P m ∧ ∀ i, i < m → ¬ P i := by
  intro n
  induction n using Nat.strongRecOn with
  | ind n ih =>
    intro h
    by_cases c : ∃ i, i < n ∧ P i
    · obtain ⟨i, hi, hp⟩ := c
      obtain ⟨m, hm, h1, h2⟩ := ih i hi hp
      exact ⟨m, by omega, h1, h2⟩
    · exact ⟨n, Nat.le_refl _, h, fun i hi hp => c ⟨i, hi, hp⟩⟩
def ta_hitY (yT : Nat → Int32) (p0 p1 p2 p3 p4 : Int32) (i : Nat) : Prop :=
  yT (5 * i) = p0 ∧ yT (5 * i + 1) = p1 ∧ yT (5 * i + 2) = p2 ∧ yT (5 * i + 3) = p3 ∧ yT (5 * i + 4) = p4
theorem ta_yj_step {post : Int32 → SY → Prop} {p0 p1 p2 p3 p4 p5 : Int32} {top i n : Nat} (ht : top ≤ 128) (hi : i < top) (hn : ¬ ta_hitY yT p0 p1 p2 p3 p4 i)
    (W : wY_join_3 post p0 p1 p2 p3 p4 p5 ync (nI top) ybc ylc yvd yel yst yat ypc ydp ytp ykd yke ymN ymL ymD ymT yT yI yW yL ybt ybf yt yv n (nI (i + 1))) : wY_join_3 post p0 p1 p2 p3 p4 p5 ync (nI top) ybc ylc yvd yel yst yat ypc ydp ytp ykd yke ymN ymL ymD ymT yT yI yW yL ybt ybf yt yv (n + 1) (nI i) := by
  have nx : ∀ x, x = nI i + 1 → wY_join_3 post p0 p1 p2 p3 p4 p5 ync (nI top) ybc ylc yvd yel yst yat ypc ydp ytp ykd yke ymN ymL ymD ymT yT yI yW yL ybt ybf yt yv n x := nm_r (nI_1 i) W
  rw [wY_join_3]
  refine br_f (nI_ge hi (by omega)) ?_
  simp (disch := omega) only [ta_5, ta_p1, ta_p2, ta_p3, ta_p4, nI_clamp] at nx ⊢
  have v0 : vp_in (nI (5 * i)) 640 := ta_vi (by omega)
  have v1 : vp_in (nI (5 * i + 1)) 640 := ta_vi (by omega)
  have v2 : vp_in (nI (5 * i + 2)) 640 := ta_vi (by omega)
  have v3 : vp_in (nI (5 * i + 3)) 640 := ta_vi (by omega)
  have v4 : vp_in (nI (5 * i + 4)) 640 := ta_vi (by omega)
  exact ⟨v0, br_c (fun h0 => ⟨v1, br_c (fun h1 => ⟨v2, br_c (fun h2 => ⟨v3, br_c (fun h3 => ⟨v4, br_c (fun h4 => absurd ⟨h0, h1, h2, h3, h4⟩ hn) (fun _ => nx)⟩) (fun _ => nx)⟩) (fun _ => nx)⟩) (fun _ => nx)⟩) (fun _ => nx)⟩
theorem ta_yj_skip {post : Int32 → SY → Prop} {p0 p1 p2 p3 p4 p5 : Int32} {top n : Nat} (ht : top ≤ 128) :
    ∀ d i, i + d ≤ top → (∀ i', i' < i + d → ¬ ta_hitY yT p0 p1 p2 p3 p4 i') → wY_join_3 post p0 p1 p2 p3 p4 p5 ync (nI top) ybc ylc yvd yel yst yat ypc ydp ytp ykd yke ymN ymL ymD ymT yT yI yW yL ybt ybf yt yv n (nI (i + d)) →
      wY_join_3 post p0 p1 p2 p3 p4 p5 ync (nI top) ybc ylc yvd yel yst yat ypc ydp ytp ykd yke ymN ymL ymD ymT yT yI yW yL ybt ybf yt yv (n + d) (nI i) := by
  intro d
  induction d with
  | zero => intro i _ _ W; exact W
  | succ d ih =>
    intro i hi hn W
    refine ta_yj_step ht (by omega) (hn i (by omega)) (ih (i + 1) (by omega) (fun i' h' => hn i' (by omega)) ?_)
    rw [show i + 1 + d = i + (d + 1) by omega]
    exact W
theorem ta_yj_hit {post : Int32 → SY → Prop} {p0 p1 p2 p3 p4 p5 : Int32} {top m : Nat} (ht : top ≤ 128) (hm : m < top) (h : ta_hitY yT p0 p1 p2 p3 p4 m)
    (hn : ∀ i, i < m → ¬ ta_hitY yT p0 p1 p2 p3 p4 i) (hp : post (nI m) (ync, nI top, ybc, ylc, yvd, yel, yst, yat, ypc, ydp, ytp, ykd, yke, ymN, ymL, ymD, ymT, yT, yI, yW, yL, ybt, ybf, yt, yv)) : wpY_join post (ync, nI top, ybc, ylc, yvd, yel, yst, yat, ypc, ydp, ytp, ykd, yke, ymN, ymL, ymD, ymT, yT, yI, yW, yL, ybt, ybf, yt, yv) p0 p1 p2 p3 p4 p5 := by
  refine ⟨0 + 1 + m, ta_yj_skip ht m 0 (by omega) (fun i hi => hn i (by omega)) ?_⟩
  rw [Nat.zero_add m, wY_join_3]
  refine br_f (nI_ge hm (by omega)) ?_
  simp (disch := omega) only [ta_5, ta_p1, ta_p2, ta_p3, ta_p4, nI_clamp]
  have v0 : vp_in (nI (5 * m)) 640 := ta_vi (by omega)
  have v1 : vp_in (nI (5 * m + 1)) 640 := ta_vi (by omega)
  have v2 : vp_in (nI (5 * m + 2)) 640 := ta_vi (by omega)
  have v3 : vp_in (nI (5 * m + 3)) 640 := ta_vi (by omega)
  have v4 : vp_in (nI (5 * m + 4)) 640 := ta_vi (by omega)
  obtain ⟨h0, h1, h2, h3, h4⟩ := h
  exact ⟨v0, br_t h0 ⟨v1, br_t h1 ⟨v2, br_t h2 ⟨v3, br_t h3 ⟨v4, br_t h4 hp⟩⟩⟩⟩⟩
def ta_app (yT : Nat → Int32) (top : Nat) (p0 p1 p2 p3 p4 : Int32) : Nat → Int32 :=
  upd (upd (upd (upd (upd yT (5 * top) p0) (5 * top + 1) p1) (5 * top + 2) p2) (5 * top + 3) p3) (5 * top + 4) p4
theorem ta_yj_new {post : Int32 → SY → Prop} {p0 p1 p2 p3 p4 : Int32} {top lim : Nat} (ht : top < lim) (hl : lim ≤ 128)
    (hn : ∀ i, i < top → ¬ ta_hitY yT p0 p1 p2 p3 p4 i) (hp : post (nI top) (ync, nI (top + 1), ybc, ylc, yvd, yel, yst, yat, ypc, ydp, ytp, ykd, yke, ymN, ymL, ymD, ymT, ta_app yT top p0 p1 p2 p3 p4, yI, yW, yL, ybt, ybf, yt, yv)) :
    wpY_join post (ync, nI top, ybc, ylc, yvd, yel, yst, yat, ypc, ydp, ytp, ykd, yke, ymN, ymL, ymD, ymT, yT, yI, yW, yL, ybt, ybf, yt, yv) p0 p1 p2 p3 p4 (nI lim) := by
  refine ⟨0 + 1 + top, ta_yj_skip (by omega) top 0 (by omega) (fun i hi => hn i (by omega)) ?_⟩
  rw [Nat.zero_add top, wY_join_3]
  refine br_t (nI_le (Nat.le_refl _) (by omega)) (br_t (nI_lt ht (by omega)) ?_)
  simp (disch := omega) only [ta_5, ta_p1, ta_p2, ta_p3, ta_p4, nI_clamp]
  have v0 : vp_in (nI (5 * top)) 640 := ta_vi (by omega)
  have v1 : vp_in (nI (5 * top + 1)) 640 := ta_vi (by omega)
  have v2 : vp_in (nI (5 * top + 2)) 640 := ta_vi (by omega)
  have v3 : vp_in (nI (5 * top + 3)) 640 := ta_vi (by omega)
  have v4 : vp_in (nI (5 * top + 4)) 640 := ta_vi (by omega)
  refine ⟨v0, nm_e ⟨v1, nm_e ⟨v2, nm_e ⟨v3, nm_e ⟨v4, nm_e (nm_e ?_)⟩⟩⟩⟩⟩
  rw [nI_pred]
  exact hp
theorem ta_yj_full {post : Int32 → SY → Prop} {p0 p1 p2 p3 p4 : Int32} {top lim : Nat} (ht : top ≤ 128) (hl : lim ≤ top)
    (hn : ∀ i, i < top → ¬ ta_hitY yT p0 p1 p2 p3 p4 i) (hp : post ta_m (ync, nI top, ybc, ylc, yvd, yel, yst, yat, ypc, ydp, ytp, ykd, yke, ymN, ymL, ymD, ymT, yT, yI, yW, yL, ybt, ybf, yt, yv)) :
    wpY_join post (ync, nI top, ybc, ylc, yvd, yel, yst, yat, ypc, ydp, ytp, ykd, yke, ymN, ymL, ymD, ymT, yT, yI, yW, yL, ybt, ybf, yt, yv) p0 p1 p2 p3 p4 (nI lim) := by
  refine ⟨0 + 1 + top, ta_yj_skip ht top 0 (by omega) (fun i hi => hn i (by omega)) ?_⟩
  rw [Nat.zero_add top, wY_join_3]
  exact br_t (nI_le (Nat.le_refl _) (by omega)) (br_f (nI_nlt hl (by omega)) hp)
theorem ta_app_lo {top : Nat} {p0 p1 p2 p3 p4 : Int32} {j : Nat} (h : j < 5 * top) : ta_app yT top p0 p1 p2 p3 p4 j = yT j := by
  unfold ta_app
  rw [pk_un (by omega), pk_un (by omega), pk_un (by omega), pk_un (by omega), pk_un (by omega)]
theorem ta_app_hit {top : Nat} {p0 p1 p2 p3 p4 : Int32} : ta_hitY (ta_app yT top p0 p1 p2 p3 p4) p0 p1 p2 p3 p4 top := by
  unfold ta_app ta_hitY
  refine ⟨?_, ?_, ?_, ?_, ?_⟩
  · rw [pk_un (by omega), pk_un (by omega), pk_un (by omega), pk_un (by omega), pk_us]
  · rw [pk_un (by omega), pk_un (by omega), pk_un (by omega), pk_us]
  · rw [pk_un (by omega), pk_un (by omega), pk_us]
  · rw [pk_un (by omega), pk_us]
  · rw [pk_us]
theorem ta_j5 {P : Nat → Prop} (h0 : P 0) (h1 : P 1) (h2 : P 2) (h3 : P 3) (h4 : P 4) : ∀ j, j < 5 → P j := by
  intro j hj
  rcases Nat.lt_or_ge j 1 with g | g
  · have : j = 0 := by omega
    rw [this]; exact h0
  · rcases Nat.lt_or_ge j 2 with g | g
    · have : j = 1 := by omega
      rw [this]; exact h1
    · rcases Nat.lt_or_ge j 3 with g | g
      · have : j = 2 := by omega
        rw [this]; exact h2
      · rcases Nat.lt_or_ge j 4 with g | g
        · have : j = 3 := by omega
          rw [this]; exact h3
        · have : j = 4 := by omega
          rw [this]; exact h4
theorem ta_app_can {top : Nat} {p0 p1 p2 p3 p4 : Int32} (C : ta_Can yT top) (hn : ∀ i, i < top → ¬ ta_hitY yT p0 p1 p2 p3 p4 i) :
    ta_Can (ta_app yT top p0 p1 p2 p3 p4) (top + 1) := by
  have key : ∀ a, a < top → ¬ (∀ j, j < 5 → ta_app yT top p0 p1 p2 p3 p4 (5 * a + j) = ta_app yT top p0 p1 p2 p3 p4 (5 * top + j)) := by
    intro a ha h
    have H := ta_app_hit (yT := yT) (top := top) (p0 := p0) (p1 := p1) (p2 := p2) (p3 := p3) (p4 := p4)
    refine hn a ha ⟨?_, ?_, ?_, ?_, ?_⟩
    · have := h 0 (by omega); rw [ta_app_lo (by omega)] at this; exact this.trans H.1
    · have := h 1 (by omega); rw [ta_app_lo (by omega)] at this; exact this.trans H.2.1
    · have := h 2 (by omega); rw [ta_app_lo (by omega)] at this; exact this.trans H.2.2.1
    · have := h 3 (by omega); rw [ta_app_lo (by omega)] at this; exact this.trans H.2.2.2.1
    · have := h 4 (by omega); rw [ta_app_lo (by omega)] at this; exact this.trans H.2.2.2.2
  intro a b ha hb h
  rcases Nat.lt_or_ge a top with ga | ga
  · rcases Nat.lt_or_ge b top with gb | gb
    · refine C a b ga gb (fun j hj => ?_)
      have := h j hj
      rw [ta_app_lo (by omega), ta_app_lo (by omega)] at this
      exact this
    · have : b = top := by omega
      subst this
      exact absurd h (key a ga)
  · have : a = top := by omega
    subst this
    rcases Nat.lt_or_ge b a with gb | gb
    · exact absurd (fun j hj => (h j hj).symm) (key b gb)
    · omega
theorem ta_join {top lim : Nat} (C : ta_Can yT top) (ht : top < lim) (hl : lim ≤ 128) (p0 p1 p2 p3 p4 : Int32) :
    ∃ (m top' : Nat) (yT' : Nat → Int32), m < top' ∧ top ≤ top' ∧ top' ≤ top + 1 ∧ (∀ j, j < 5 * top → yT' j = yT j) ∧ ta_Can yT' top' ∧ ta_hitY yT' p0 p1 p2 p3 p4 m ∧
      ∀ {ync ybc ylc yvd yel yst yat ypc ydp ytp ykd yke ymN ymL ymD ymT : Int32} {yI yW yL ybt ybf yt yv : Nat → Int32} (post : Int32 → SY → Prop), post (nI m) (ync, nI top', ybc, ylc, yvd, yel, yst, yat, ypc, ydp, ytp, ykd, yke, ymN, ymL, ymD, ymT, yT', yI, yW, yL, ybt, ybf, yt, yv) → wpY_join post (ync, nI top, ybc, ylc, yvd, yel, yst, yat, ypc, ydp, ytp, ykd, yke, ymN, ymL, ymD, ymT, yT, yI, yW, yL, ybt, ybf, yt, yv) p0 p1 p2 p3 p4 (nI lim) := by
  by_cases h : ∃ m, m < top ∧ ta_hitY yT p0 p1 p2 p3 p4 m
  · obtain ⟨m0, h0, h1⟩ := h
    obtain ⟨m, a, b, c⟩ := ta_least m0 h1
    refine ⟨m, top, yT, by omega, by omega, by omega, fun _ _ => rfl, C, b, ?_⟩
    intros
    rename_i post hp
    exact ta_yj_hit (by omega) (by omega) b c hp
  · have hn : ∀ i, i < top → ¬ ta_hitY yT p0 p1 p2 p3 p4 i := fun i hi hh => h ⟨i, hi, hh⟩
    refine ⟨top, top + 1, ta_app yT top p0 p1 p2 p3 p4, by omega, by omega, by omega, fun j hj => ta_app_lo hj, ta_app_can C hn, ta_app_hit, ?_⟩
    intros
    rename_i post hp
    exact ta_yj_new ht hl hn hp
end
end
section
/-! the arena (K, N), and Y's replace -/
def ta_SL (K : Nat → Nat) (N : Nat → Nat → Option Nat) (nc i j : Nat) : Prop :=
  (j < K i - 2 → (∀ w, N i j = some w → ta_GW K nc w ∧ w / 4 < i) ∧ (N i j = none → K i = 5)) ∧
  (K i - 2 ≤ j → (j = K i - 2 ∧ (K i = 3 ∨ K i = 5) → ∃ t, N i j = some t ∧ t < i ∧ ta_SK K t) ∧ (¬ (j = K i - 2 ∧ (K i = 3 ∨ K i = 5)) → N i j = none))
def ta_PA (K : Nat → Nat) (N : Nat → Nat → Option Nat) (nc : Nat) : Prop :=
  3 ≤ nc ∧ nc ≤ 24 ∧ K 0 = 0 ∧ K 1 = 1 ∧ K 2 = 2 ∧ (∀ i, K i ≤ 5) ∧ (∀ i, 3 ≤ i → i < nc → 3 ≤ K i) ∧ (∀ i, i < nc → ∀ j, j < 4 → ta_SL K N nc i j)
def ta_YA (K : Nat → Nat) (N : Nat → Nat → Option Nat) (nc : Nat) (yT : Nat → Int32) : Prop :=
  ∀ i, i < nc → yT (5 * i) = nI (K i) ∧ ∀ j, j < 4 → yT (5 * i + 1 + j) = ta_enc (N i j)
/-- a word under a map of nodes -/
def ta_mw (K g : Nat → Nat) (w : Nat) : Nat := if K (w / 4) = 5 ∧ w % 4 = 1 then w else 4 * g (w / 4) + w % 4
def ta_ms (K : Nat → Nat) (N : Nat → Nat → Option Nat) (g : Nat → Nat) (i j : Nat) : Option Nat := if j < K i - 2 then (N i j).map (ta_mw K g) else (N i j).map g
def ta_RF (K : Nat → Nat) (N : Nat → Nat → Option Nat) (g : Nat → Nat) (yT : Nat → Int32) (i : Nat) : Prop :=
  yT (5 * g i) = nI (K i) ∧ ∀ j, j < 4 → yT (5 * g i + 1 + j) = ta_enc (ta_ms K N g i j)
section
variable {ync ytop ybc ylc yvd yel yst yat ypc ydp ytp ykd yke ymN ymL ymD ymT : Int32} {yT yI yW yL ybt ybf yt yv : Nat → Int32}
variable {K : Nat → Nat} {N : Nat → Nat → Option Nat} {nc : Nat}
theorem ta_ms_w {g : Nat → Nat} (A : ta_PA K N nc) {i j : Nat} (hi : i < nc) (hj : j < 4) (h : ¬ (j = K i - 2 ∧ (K i = 3 ∨ K i = 5))) :
    (N i j).map (ta_mw K g) = ta_ms K N g i j := by
  unfold ta_ms
  by_cases c : j < K i - 2
  · rw [if_pos c]
  · rw [if_neg c]
    have := ((A.2.2.2.2.2.2.2 i hi j hj).2 (by omega)).2 h
    rw [this]; rfl
theorem ta_ms_t {g : Nat → Nat} {i j t : Nat} (h : j = K i - 2) (e : N i j = some t) : ta_ms K N g i j = some (g t) := by
  unfold ta_ms
  rw [if_neg (by omega), e]; rfl
theorem ta_ms_congr {g g' : Nat → Nat} (A : ta_PA K N nc) {i j : Nat} (hi : i < nc) (hj : j < 4) (h : ∀ x, x < i → g x = g' x) : ta_ms K N g i j = ta_ms K N g' i j := by
  have S := A.2.2.2.2.2.2.2 i hi j hj
  unfold ta_ms
  by_cases c : j < K i - 2
  · rw [if_pos c, if_pos c]
    have S1 := (S.1 c).1
    revert S1
    cases N i j with
    | none => intro _; rfl
    | some w =>
      intro S1
      have := (S1 w rfl).2
      show some (ta_mw K g w) = some (ta_mw K g' w)
      unfold ta_mw
      rw [h _ this]
  · rw [if_neg c, if_neg c]
    have S2 := S.2 (by omega)
    by_cases t : j = K i - 2 ∧ (K i = 3 ∨ K i = 5)
    · obtain ⟨x, e, lt, _⟩ := S2.1 t
      rw [e]
      show some (g x) = some (g' x)
      rw [h _ lt]
    · rw [S2.2 t]; rfl
theorem ta_yword {g : Nat → Nat} (hK : ∀ i, K i ≤ 5) {o : Nat} (ho : o = 0 ∨ o = 24) {x : Option Nat} (hx : ∀ w, x = some w → w / 4 < 24 ∧ yT (5 * (w / 4)) = nI (K (w / 4)) ∧ yI (o + w / 4) = nI (g (w / 4)))
    {post : Int32 → Prop} (hp : post (ta_enc (x.map (ta_mw K g)))) : wpY_word post (ync, ytop, ybc, ylc, yvd, yel, yst, yat, ypc, ydp, ytp, ykd, yke, ymN, ymL, ymD, ymT, yT, yI, yW, yL, ybt, ybf, yt, yv) (nI o) (ta_enc x) := by
  cases x with
  | none => exact br_t (show ta_m < 0 from by decide) hp
  | some w =>
    obtain ⟨h1, h2, h3⟩ := hx w rfl
    have k5 := hK (w / 4)
    have e1 : nI w >>> ((2 : Int32) &&& 31) = nI (w / 4) := ta_sh2 (by omega)
    have e2 : nI w &&& 3 = nI (w % 4) := ta_and3 (by omega)
    have hp' : post (nI (ta_mw K g w)) := hp
    unfold ta_mw at hp'
    have fin : ¬ (K (w / 4) = 5 ∧ w % 4 = 1) → wY_word_27 post (nI o) (nI w) ync ytop ybc ylc yvd yel yst yat ypc ydp ytp ykd yke ymN ymL ymD ymT yT yI yW yL ybt ybf yt yv := by
      intro c
      rw [if_neg c] at hp'
      unfold wY_word_27
      rw [e1, e2, nI_add, nI_clamp (by omega), h3, ta_l4, pk_mul, nI_add]
      exact ⟨ta_vi (by omega), hp'⟩
    refine br_f (nI_pos (by omega)) ?_
    rw [show (ta_enc (some w)) = nI w from rfl, e1, ta_5, nI_clamp (by omega), h2, e2]
    refine ⟨ta_vi (by omega), ?_⟩
    refine pk_eq (K (w / 4)) 5 (fun c => ?_) (fun c => fin (fun z => c z.1))
    refine pk_eq (w % 4) 1 (fun c2 => ?_) (fun c2 => fin (fun z => c2 z.2))
    rw [if_pos ⟨c, c2⟩] at hp'
    exact hp'
/-- what stands of a map up to node i -/
def ta_RI (K : Nat → Nat) (N : Nat → Nat → Option Nat) (o s i : Nat) (g : Nat → Nat) (top : Nat) (yT yI : Nat → Int32) : Prop :=
  ∀ x, x < i → yI (o + x) = nI (g x) ∧ g x < top ∧ (x = 1 → g x = s) ∧ (x ≠ 1 → ta_RF K N g yT x)
theorem ta_RI_step (A : ta_PA K N nc) {o s i : Nat} {g : Nat → Nat} {top top' m : Nat} {yT' : Nat → Int32} (hi : i < nc) (R : ta_RI K N o s i g top yT yI)
    (ht : top ≤ top') (hT : ∀ j, j < 5 * top → yT' j = yT j) (hm : m < top') (h1 : i = 1 → m = s)
    (h2 : i ≠ 1 → yT' (5 * m) = nI (K i) ∧ ∀ j, j < 4 → yT' (5 * m + 1 + j) = ta_enc (ta_ms K N g i j)) :
    ta_RI K N o s (i + 1) (fun x => if x = i then m else g x) top' yT' (upd yI (o + i) (nI m)) := by
  intro x hx
  by_cases e : x = i
  · subst e
    dsimp only
    rw [if_pos rfl, pk_us]
    refine ⟨rfl, hm, h1, fun h => ?_⟩
    have H := h2 h
    unfold ta_RF
    dsimp only
    rw [if_pos rfl]
    refine ⟨H.1, fun j hj => ?_⟩
    rw [H.2 j hj]
    refine congrArg ta_enc (ta_ms_congr A hi hj (fun y hy => ?_))
    rw [if_neg (by omega)]
  · have hx2 : x < i := by omega
    obtain ⟨a, b, c, d⟩ := R x hx2
    dsimp only
    rw [if_neg e, pk_un (by omega)]
    refine ⟨a, by omega, c, fun h => ?_⟩
    have D := d h
    unfold ta_RF at D ⊢
    dsimp only
    rw [if_neg e]
    refine ⟨by rw [hT _ (by omega)]; exact D.1, fun j hj => ?_⟩
    rw [hT _ (by omega), D.2 j hj]
    refine congrArg ta_enc (ta_ms_congr A (by omega) hj (fun y hy => ?_))
    rw [if_neg (by omega)]
theorem ta_rep2 (A : ta_PA K N nc) {yT0 : Nat → Int32} {top0 : Nat} (Y : ta_YA K N nc yT0) (hnt : nc ≤ top0) {o s : Nat} (ho : o = 0 ∨ o = 24) (h128 : top0 + nc ≤ 128) (hs : s < top0) :
    ∀ (d i top : Nat) (yT yI : Nat → Int32) (g : Nat → Nat), i + d = nc → top0 ≤ top → top ≤ top0 + i → ta_Can yT top → (∀ j, j < 5 * top0 → yT j = yT0 j) → ta_RI K N o s i g top yT yI →
      ∃ (top' : Nat) (yT' yI' : Nat → Int32) (g' : Nat → Nat), top0 ≤ top' ∧ top' ≤ top0 + nc ∧ ta_Can yT' top' ∧ (∀ j, j < 5 * top0 → yT' j = yT0 j) ∧ ta_RI K N o s nc g' top' yT' yI' ∧
        (∀ j, j < o ∨ o + nc ≤ j → yI' j = yI j) ∧
        ∀ {ybc ylc yvd yel yst yat ypc ydp ytp ykd yke ymN ymL ymD ymT : Int32} {yW yL ybt ybf yt yv : Nat → Int32} (post : SY → Prop), post (nI nc, nI top', ybc, ylc, yvd, yel, yst, yat, ypc, ydp, ytp, ykd, yke, ymN, ymL, ymD, ymT, yT', yI', yW, yL, ybt, ybf, yt, yv) → wY_replace_2 post (nI o) (nI s) (d + 1) (nI i) (nI nc) (nI top) ybc ylc yvd yel yst yat ypc ydp ytp ykd yke ymN ymL ymD ymT yT yI yW yL ybt ybf yt yv := by
  have n24 := A.2.1
  intro d
  induction d with
  | zero =>
    intro i top yT yI g hi h0 h1 C hT R
    have : i = nc := by omega
    subst this
    refine ⟨top, yT, yI, g, h0, h1, C, hT, R, fun _ _ => rfl, ?_⟩
    intros
    rename_i post hp
    rw [wY_replace_2]
    exact br_t (nI_le (Nat.le_refl _) (by omega)) hp
  | succ d ih =>
    intro i top yT yI g hi h0 h1 C hT R
    have hin : i < nc := by omega
    have k5 := A.2.2.2.2.2.1 i
    have tk : yT (5 * i) = nI (K i) := by rw [hT _ (by omega)]; exact (Y i hin).1
    have tj : ∀ j, j < 4 → yT (5 * i + 1 + j) = ta_enc (N i j) := fun j hj => by rw [hT _ (by omega)]; exact (Y i hin).2 j hj
    have t0 : yT (5 * i + 1) = ta_enc (N i 0) := tj 0 (by omega)
    have t1 : yT (5 * i + 2) = ta_enc (N i 1) := tj 1 (by omega)
    have t2 : yT (5 * i + 3) = ta_enc (N i 2) := tj 2 (by omega)
    have t3 : yT (5 * i + 4) = ta_enc (N i 3) := tj 3 (by omega)
    -- the word slots
    have hwd : ∀ j, j < 4 → ¬ (j = K i - 2 ∧ (K i = 3 ∨ K i = 5)) → ∀ w, N i j = some w → w / 4 < 24 ∧ yT (5 * (w / 4)) = nI (K (w / 4)) ∧ yI (o + w / 4) = nI (g (w / 4)) := by
      intro j hj hnt w e
      have S := A.2.2.2.2.2.2.2 i hin j hj
      by_cases c : j < K i - 2
      · have lt := ((S.1 c).1 w e).2
        refine ⟨by omega, ?_, (R _ lt).1⟩
        rw [hT _ (by omega)]
        exact (Y _ (by omega)).1
      · rw [(S.2 (by omega)).2 hnt] at e
        exact absurd e (by simp)
    have m0 := ta_ms_w (g := g) A hin (j := 0) (by omega) (by omega)
    have m2 := ta_ms_w (g := g) A hin (j := 2) (by omega) (by omega)
    -- the end of a pass
    have fin : ∃ (top' : Nat) (yT' yI' : Nat → Int32) (g' : Nat → Nat), top0 ≤ top' ∧ top' ≤ top0 + nc ∧ ta_Can yT' top' ∧ (∀ j, j < 5 * top0 → yT' j = yT0 j) ∧ ta_RI K N o s nc g' top' yT' yI' ∧
        (∀ j, j < o ∨ o + nc ≤ j → yI' j = yI j) ∧
        ∀ {ybc ylc yvd yel yst yat ypc ydp ytp ykd yke ymN ymL ymD ymT : Int32} {yW yL ybt ybf yt yv : Nat → Int32} (post : SY → Prop), post (nI nc, nI top', ybc, ylc, yvd, yel, yst, yat, ypc, ydp, ytp, ykd, yke, ymN, ymL, ymD, ymT, yT', yI', yW, yL, ybt, ybf, yt, yv) →
          wY_replace_124 post (wY_replace_2 post (nI o) (nI s) (d + 1)) (nI o) (nI s) (nI i) (nI (K i)) (ta_enc (ta_ms K N g i 1)) (ta_enc (ta_ms K N g i 3)) (ta_enc (ta_ms K N g i 0)) (ta_enc (ta_ms K N g i 2)) (nI nc) (nI top) ybc ylc yvd yel yst yat ypc ydp ytp ykd yke ymN ymL ymD ymT yT yI yW yL ybt ybf yt yv := by
      by_cases c1 : K i = 1
      · have e1 : i = 1 := by
          rcases Nat.lt_or_ge i 3 with z | z
          · rcases Nat.lt_or_ge i 1 with z0 | z0
            · have : i = 0 := by omega
              rw [this, A.2.2.1] at c1; omega
            · rcases Nat.lt_or_ge i 2 with z1 | z1
              · omega
              · have : i = 2 := by omega
                rw [this, A.2.2.2.2.1] at c1; omega
          · have := A.2.2.2.2.2.2.1 i z hin
            omega
        obtain ⟨top', yT', yI', g', q1, q2, q3, q4, q5, q6, q7⟩ := ih (i + 1) top yT (upd yI (o + i) (nI s)) _ (by omega) h0 (by omega) C hT
          (ta_RI_step A hin R (Nat.le_refl _) (fun _ _ => rfl) (by omega) (fun _ => rfl) (fun z => absurd e1 z))
        refine ⟨top', yT', yI', g', q1, q2, q3, q4, q5, fun j hj => ?_, ?_⟩
        · rw [q6 j hj, pk_un (by omega)]
        · intros
          rename_i post hp
          unfold wY_replace_124
          refine br_t (congrArg nI c1) ?_
          rw [nI_add, nI_clamp (by omega)]
          exact ⟨ta_vi (by omega), nm_e (nm_r (nI_1 i) (q7 post hp))⟩
      · obtain ⟨m, top1, yT1, j1, j2, j3, j4, j5, j6, j7⟩ := ta_join (lim := 128) C (by omega) (by omega) (nI (K i)) (ta_enc (ta_ms K N g i 0)) (ta_enc (ta_ms K N g i 1)) (ta_enc (ta_ms K N g i 2)) (ta_enc (ta_ms K N g i 3))
        have ne1 : i ≠ 1 := fun z => c1 (by rw [z]; exact A.2.2.2.1)
        obtain ⟨top', yT', yI', g', q1, q2, q3, q4, q5, q6, q7⟩ := ih (i + 1) top1 yT1 (upd yI (o + i) (nI m)) _ (by omega) (by omega) (by omega) j5 (fun j hj => by rw [j4 j (by omega)]; exact hT j hj)
          (ta_RI_step A hin R j2 j4 j1 (fun z => absurd z ne1) (fun _ => ⟨j6.1, by
            intro j hj
            rcases Nat.lt_or_ge j 1 with z | z
            · have : j = 0 := by omega
              rw [this]; exact j6.2.1
            · rcases Nat.lt_or_ge j 2 with z | z
              · have : j = 1 := by omega
                rw [this]; exact j6.2.2.1
              · rcases Nat.lt_or_ge j 3 with z | z
                · have : j = 2 := by omega
                  rw [this]; exact j6.2.2.2.1
                · have : j = 3 := by omega
                  rw [this]; exact j6.2.2.2.2⟩))
        refine ⟨top', yT', yI', g', q1, q2, q3, q4, q5, fun j hj => ?_, ?_⟩
        · rw [q6 j hj, pk_un (by omega)]
        · intros
          rename_i post hp
          unfold wY_replace_124
          refine br_f (fun z => c1 ((nI_eq (by omega) (by omega)).mp (z.trans ta_l1))) (j7 _ ?_)
          dsimp only
          rw [nI_add, nI_clamp (by omega)]
          exact ⟨ta_vi (by omega), nm_e (nm_r (nI_1 i) (q7 post hp))⟩
    obtain ⟨top', yT', yI', g', q1, q2, q3, q4, q5, q6, q7⟩ := fin
    refine ⟨top', yT', yI', g', q1, q2, q3, q4, q5, q6, fun {ybc ylc yvd yel yst yat ypc ydp ytp ykd yke ymN ymL ymD ymT : Int32} {yW yL ybt ybf yt yv : Nat → Int32} post hp => ?_⟩
    rw [wY_replace_2]
    refine br_f (nI_ge hin (by omega)) ?_
    simp (disch := omega) only [ta_5, ta_p1, ta_p2, ta_p3, ta_p4, nI_clamp, tk, t0, t1, t2, t3]
    have v0 : vp_in (nI (5 * i)) 640 := ta_vi (by omega)
    have v1 : vp_in (nI (5 * i + 1)) 640 := ta_vi (by omega)
    have v2 : vp_in (nI (5 * i + 2)) 640 := ta_vi (by omega)
    have v3 : vp_in (nI (5 * i + 3)) 640 := ta_vi (by omega)
    have v4 : vp_in (nI (5 * i + 4)) 640 := ta_vi (by omega)
    refine ⟨v0, nm_e ⟨v2, nm_e ⟨v4, nm_e ⟨v1, ?_⟩⟩⟩⟩
    refine ta_yword A.2.2.2.2.2.1 ho (hwd 0 (by omega) (by omega)) ?_
    rw [m0]
    refine ⟨v3, ?_⟩
    refine ta_yword A.2.2.2.2.2.1 ho (hwd 2 (by omega) (by omega)) ?_
    rw [m2]
    -- slot 3 and the rest, with slot 1 done
    have f107 : wY_replace_107 post (wY_replace_2 post (nI o) (nI s) (d + 1)) (nI o) (nI s) (nI i) (nI (K i)) (ta_enc (ta_ms K N g i 1)) (ta_enc (N i 3)) (ta_enc (ta_ms K N g i 0)) (ta_enc (ta_ms K N g i 2)) (nI nc) (nI top) ybc ylc yvd yel yst yat ypc ydp ytp ykd yke ymN ymL ymD ymT yT yI yW yL ybt ybf yt yv := by
      unfold wY_replace_107
      refine pk_eq (K i) 5 (fun c => ?_) (fun c => ?_)
      · obtain ⟨t, e, lt, _⟩ := ((A.2.2.2.2.2.2.2 i hin 3 (by omega)).2 (by omega)).1 ⟨by omega, Or.inr c⟩
        have q8 := q7 post hp
        rw [ta_ms_t (j := 3) (by omega) e] at q8
        rw [e, show ta_enc (some t) = nI t from rfl, nI_add, nI_clamp (by omega), (R t lt).1]
        exact ⟨ta_vi (by omega), nm_e q8⟩
      · have e := ((A.2.2.2.2.2.2.2 i hin 3 (by omega)).2 (by omega)).2 (by omega)
        have q8 := q7 post hp
        rw [← ta_ms_w (g := g) A hin (j := 3) (by omega) (by omega), e] at q8
        rw [e]
        exact q8
    refine pk_eq (K i) 3 (fun c => ?_) (fun c => ?_)
    · obtain ⟨t, e, lt, _⟩ := ((A.2.2.2.2.2.2.2 i hin 1 (by omega)).2 (by omega)).1 ⟨by omega, Or.inl c⟩
      rw [ta_ms_t (j := 1) (by omega) e] at f107
      rw [e, show ta_enc (some t) = nI t from rfl, nI_add, nI_clamp (by omega), (R t lt).1]
      exact ⟨ta_vi (by omega), nm_e f107⟩
    · refine ta_yword A.2.2.2.2.2.1 ho (hwd 1 (by omega) (by omega)) ?_
      rw [ta_ms_w (g := g) A hin (j := 1) (by omega) (by omega)]
      exact f107
theorem ta_replace (A : ta_PA K N nc) {top : Nat} (Y : ta_YA K N nc yT) (C : ta_Can yT top) (hnt : nc ≤ top) {o s : Nat} (ho : o = 0 ∨ o = 24) (h128 : top + nc ≤ 128) (hs : s < top) (yI : Nat → Int32) :
    ∃ (top' : Nat) (yT' yI' : Nat → Int32) (g : Nat → Nat), top ≤ top' ∧ top' ≤ top + nc ∧ ta_Can yT' top' ∧ (∀ j, j < 5 * top → yT' j = yT j) ∧ ta_RI K N o s nc g top' yT' yI' ∧
      (∀ j, j < o ∨ o + nc ≤ j → yI' j = yI j) ∧
      ∀ {ybc ylc yvd yel yst yat ypc ydp ytp ykd yke ymN ymL ymD ymT : Int32} {yW yL ybt ybf yt yv : Nat → Int32} (post : SY → Prop), post (nI nc, nI top', ybc, ylc, yvd, yel, yst, yat, ypc, ydp, ytp, ykd, yke, ymN, ymL, ymD, ymT, yT', yI', yW, yL, ybt, ybf, yt, yv) → wpY_replace post (nI nc, nI top, ybc, ylc, yvd, yel, yst, yat, ypc, ydp, ytp, ykd, yke, ymN, ymL, ymD, ymT, yT, yI, yW, yL, ybt, ybf, yt, yv) (nI o) (nI s) := by
  obtain ⟨top', yT', yI', g', q1, q2, q3, q4, q5, q6, q7⟩ := ta_rep2 A Y hnt ho h128 hs nc 0 top yT yI (fun _ => 0) (by omega) (Nat.le_refl _) (by omega) C (fun _ _ => rfl) (fun x hx => absurd hx (by omega))
  refine ⟨top', yT', yI', g', q1, q2, q3, q4, q5, q6, ?_⟩
  intros
  rename_i post hp
  exact ⟨_, q7 post hp⟩
end
end
section
/-! cells, ends, drops -/
def ta_pt (k : Nat) : Nat := if k < 3 then 0 else if k = 5 then 4 else 2
def ta_XA (K : Nat → Nat) (N : Nat → Nat → Option Nat) (nc : Nat) (xK xP : Nat → Int32) : Prop :=
  ∀ i, i < nc → xK i = nI (K i) ∧ ∀ j, j < 4 → xP (4 * i + j) = if j < ta_pt (K i) then ta_enc (N i j) else nI 0
def ta_DE (K : Nat → Nat) (N : Nat → Nat → Option Nat) (D E : Nat → Nat) (nc : Nat) : Prop :=
  ∀ i, i < nc → ta_SK K i → D i ≤ 6 ∧ (K i = 3 → ∀ t, N i 1 = some t → D i = D t + 1 ∧ E i = E t) ∧ (K i ≠ 3 → D i = 0 ∧ E i = i)
section
variable {xmN xmL xmD xmT xnc xlc xbc xvd xel xkd xke xqd xst xat xpc xdp xtp : Int32} {xK xP xL xbt xbf xR xB xQ xS xt xv : Nat → Int32}
variable {ync ytop ybc ylc yvd yel yst yat ypc ydp ytp ykd yke ymN ymL ymD ymT : Int32} {yT yI yW yL ybt ybf yt yv : Nat → Int32}
variable {K : Nat → Nat} {N : Nat → Nat → Option Nat} {nc : Nat} {D E : Nat → Nat}
theorem ta_cons (A : ta_PA K N nc) {i : Nat} (hi : i < nc) (h3 : K i = 3) : ∃ w t, N i 0 = some w ∧ N i 1 = some t ∧ ta_GW K nc w ∧ w / 4 < i ∧ t < i ∧ ta_SK K t ∧ N i 2 = none ∧ N i 3 = none := by
  have S := A.2.2.2.2.2.2.2 i hi
  obtain ⟨t, e, lt, sk⟩ := ((S 1 (by omega)).2 (by omega)).1 ⟨by omega, Or.inl h3⟩
  have S0 := (S 0 (by omega)).1 (by omega)
  have n2 := ((S 2 (by omega)).2 (by omega)).2 (by omega)
  have n3 := ((S 3 (by omega)).2 (by omega)).2 (by omega)
  cases h : N i 0 with
  | none => have := S0.2 h; omega
  | some w => exact ⟨w, t, rfl, e, (S0.1 w h).1, (S0.1 w h).2, lt, sk, n2, n3⟩
theorem ta_consX (A : ta_PA K N nc) (X : ta_XA K N nc xK xP) {i : Nat} (hi : i < nc) (h3 : K i = 3) : ∃ w t, N i 0 = some w ∧ N i 1 = some t ∧ ta_GW K nc w ∧ w / 4 < i ∧ t < i ∧ ta_SK K t ∧ xP (4 * i) = nI w ∧ xP (4 * i + 1) = nI t := by
  obtain ⟨w, t, e0, e1, g, l0, l1, sk, _, _⟩ := ta_cons A hi h3
  have p0 := (X i hi).2 0 (by omega)
  have p1 := (X i hi).2 1 (by omega)
  rw [h3, if_pos (by decide), e0] at p0
  rw [h3, if_pos (by decide), e1] at p1
  exact ⟨w, t, e0, e1, g, l0, l1, sk, p0, p1⟩
theorem ta_consY (A : ta_PA K N nc) (Y : ta_YA K N nc yT) {i : Nat} (hi : i < nc) (h3 : K i = 3) : ∃ w t, N i 0 = some w ∧ N i 1 = some t ∧ ta_GW K nc w ∧ w / 4 < i ∧ t < i ∧ ta_SK K t ∧ yT (5 * i + 1) = nI w ∧ yT (5 * i + 2) = nI t := by
  obtain ⟨w, t, e0, e1, g, l0, l1, sk, _, _⟩ := ta_cons A hi h3
  have p0 := (Y i hi).2 0 (by omega)
  have p1 := (Y i hi).2 1 (by omega)
  rw [e0] at p0
  rw [e1] at p1
  exact ⟨w, t, e0, e1, g, l0, l1, sk, p0, p1⟩
theorem ta_xcells7 (A : ta_PA K N nc) (X : ta_XA K N nc xK xP) (H : ta_DE K N D E nc) {post : Int32 → Prop} :
    ∀ d i c, D i = d → i < nc → ta_SK K i → c + d ≤ 23 → post (nI (c + d)) → wX_cells_7 post xmN xmL xmD xmT xnc xlc xbc xvd xel xkd xke xqd xst xat xpc xdp xtp xK xP xL xbt xbf xR xB xQ xS xt xv (d + 1) (nI i) (nI c) (nI c) := by
  have n24 := A.2.1
  intro d
  induction d with
  | zero =>
    intro i c hd hi sk hc hp
    rw [wX_cells_7]
    refine br_f (nI_ge (b := 24) (by omega) (by decide)) ⟨pk_in i 32 (by omega), ?_⟩
    rw [nI_clamp (by omega), (X i hi).1]
    by_cases h3 : K i = 3
    · obtain ⟨w, t, e0, e1, _⟩ := ta_cons A hi h3
      have := ((H i hi sk).2.1 h3 t e1).1
      omega
    · exact br_f (ta_keq (c := 3) (A.2.2.2.2.2.1 i) (by omega) h3) hp
  | succ d ih =>
    intro i c hd hi sk hc hp
    rw [wX_cells_7]
    refine br_f (nI_ge (b := 24) (by omega) (by decide)) ⟨pk_in i 32 (by omega), ?_⟩
    rw [nI_clamp (by omega), (X i hi).1]
    by_cases h3 : K i = 3
    · obtain ⟨w, t, e0, e1, g, l0, l1, sk', p0, p1⟩ := ta_consX A X hi h3
      have hD := ((H i hi sk).2.1 h3 t e1).1
      refine br_t (congrArg nI h3) ?_
      rw [ta_4, nI_1, nI_clamp (by omega), p1]
      refine ⟨ta_vi (by omega), nm_e (nm_r (nI_1 c) (nm_r (nI_1 c) ?_))⟩
      refine ih t (c + 1) (by omega) (by omega) sk' (by omega) ?_
      rw [show c + 1 + d = c + (d + 1) by omega]
      exact hp
    · have := ((H i hi sk).2.2 h3).1
      omega
theorem ta_xcells (A : ta_PA K N nc) (X : ta_XA K N nc xK xP) (H : ta_DE K N D E nc) {i : Nat} (hi : i < nc) (sk : ta_SK K i) {post : Int32 → Prop} (hp : post (nI (D i))) : wpX_cells post (xmN, xmL, xmD, xmT, xnc, xlc, xbc, xvd, xel, xkd, xke, xqd, xst, xat, xpc, xdp, xtp, xK, xP, xL, xbt, xbf, xR, xB, xQ, xS, xt, xv) (nI i) := by
  have := (H i hi sk).1
  exact ⟨D i + 1, ta_xcells7 A X H (D i) i 0 rfl hi sk (by omega) (by rw [Nat.zero_add]; exact hp)⟩
theorem ta_xend4 (A : ta_PA K N nc) (X : ta_XA K N nc xK xP) (H : ta_DE K N D E nc) {post : Int32 → Prop} :
    ∀ d i c, D i = d → i < nc → ta_SK K i → c + d ≤ 23 → post (nI (E i)) → wX_endOf_4 post xmN xmL xmD xmT xnc xlc xbc xvd xel xkd xke xqd xst xat xpc xdp xtp xK xP xL xbt xbf xR xB xQ xS xt xv (d + 1) (nI i) (nI c) := by
  have n24 := A.2.1
  intro d
  induction d with
  | zero =>
    intro i c hd hi sk hc hp
    rw [wX_endOf_4]
    refine br_f (nI_ge (b := 24) (by omega) (by decide)) ⟨pk_in i 32 (by omega), ?_⟩
    rw [nI_clamp (by omega), (X i hi).1]
    by_cases h3 : K i = 3
    · obtain ⟨w, t, e0, e1, _⟩ := ta_cons A hi h3
      have := ((H i hi sk).2.1 h3 t e1).1
      omega
    · rw [((H i hi sk).2.2 h3).2] at hp
      exact br_f (ta_keq (c := 3) (A.2.2.2.2.2.1 i) (by omega) h3) hp
  | succ d ih =>
    intro i c hd hi sk hc hp
    rw [wX_endOf_4]
    refine br_f (nI_ge (b := 24) (by omega) (by decide)) ⟨pk_in i 32 (by omega), ?_⟩
    rw [nI_clamp (by omega), (X i hi).1]
    by_cases h3 : K i = 3
    · obtain ⟨w, t, e0, e1, g, l0, l1, sk', p0, p1⟩ := ta_consX A X hi h3
      have hD := (H i hi sk).2.1 h3 t e1
      refine br_t (congrArg nI h3) ?_
      rw [ta_4, nI_1, nI_clamp (by omega), p1]
      refine ⟨ta_vi (by omega), nm_e (nm_r (nI_1 c) ?_)⟩
      exact ih t (c + 1) (by omega) (by omega) sk' (by omega) (by rw [← hD.2]; exact hp)
    · have := ((H i hi sk).2.2 h3).1
      omega
theorem ta_xend (A : ta_PA K N nc) (X : ta_XA K N nc xK xP) (H : ta_DE K N D E nc) {i : Nat} (hi : i < nc) (sk : ta_SK K i) {post : Int32 → Prop} (hp : post (nI (E i))) : wpX_endOf post (xmN, xmL, xmD, xmT, xnc, xlc, xbc, xvd, xel, xkd, xke, xqd, xst, xat, xpc, xdp, xtp, xK, xP, xL, xbt, xbf, xR, xB, xQ, xS, xt, xv) (nI i) := by
  have := (H i hi sk).1
  exact ⟨D i + 1, ta_xend4 A X H (D i) i 0 rfl hi sk (by omega) hp⟩
theorem ta_ycells4 (A : ta_PA K N nc) (Y : ta_YA K N nc yT) (H : ta_DE K N D E nc) {post : Int32 → Prop} :
    ∀ d i c, D i = d → i < nc → ta_SK K i → c + d ≤ 100 → post (nI (c + d)) → wY_cells_4 post ync ytop ybc ylc yvd yel yst yat ypc ydp ytp ykd yke ymN ymL ymD ymT yT yI yW yL ybt ybf yt yv (d + 1) (nI c) (nI i) := by
  have n24 := A.2.1
  intro d
  induction d with
  | zero =>
    intro i c hd hi sk hc hp
    rw [wY_cells_4]
    refine br_f (nI_ge (b := 128) (by omega) (by decide)) ?_
    rw [ta_5, nI_clamp (by omega), (Y i hi).1]
    refine ⟨ta_vi (by omega), ?_⟩
    by_cases h3 : K i = 3
    · obtain ⟨w, t, e0, e1, _⟩ := ta_cons A hi h3
      have := ((H i hi sk).2.1 h3 t e1).1
      omega
    · exact br_f (ta_keq (c := 3) (A.2.2.2.2.2.1 i) (by omega) h3) hp
  | succ d ih =>
    intro i c hd hi sk hc hp
    rw [wY_cells_4]
    refine br_f (nI_ge (b := 128) (by omega) (by decide)) ?_
    rw [ta_5, nI_clamp (by omega), (Y i hi).1]
    refine ⟨ta_vi (by omega), ?_⟩
    by_cases h3 : K i = 3
    · obtain ⟨w, t, e0, e1, g, l0, l1, sk', p0, p1⟩ := ta_consY A Y hi h3
      have hD := ((H i hi sk).2.1 h3 t e1).1
      refine br_t (congrArg nI h3) (nm_r (nI_1 c) ?_)
      rw [ta_p2, nI_clamp (by omega), p1]
      refine ⟨ta_vi (by omega), nm_e ?_⟩
      refine ih t (c + 1) (by omega) (by omega) sk' (by omega) ?_
      rw [show c + 1 + d = c + (d + 1) by omega]
      exact hp
    · have := ((H i hi sk).2.2 h3).1
      omega
theorem ta_ycells (A : ta_PA K N nc) (Y : ta_YA K N nc yT) (H : ta_DE K N D E nc) {i : Nat} (hi : i < nc) (sk : ta_SK K i) {post : Int32 → Prop} (hp : post (nI (D i))) : wpY_cells post (ync, ytop, ybc, ylc, yvd, yel, yst, yat, ypc, ydp, ytp, ykd, yke, ymN, ymL, ymD, ymT, yT, yI, yW, yL, ybt, ybf, yt, yv) (nI i) := by
  have := (H i hi sk).1
  exact ⟨D i + 1, ta_ycells4 A Y H (D i) i 0 rfl hi sk (by omega) (by rw [Nat.zero_add]; exact hp)⟩
theorem ta_ydrop5 (A : ta_PA K N nc) (Y : ta_YA K N nc yT) (H : ta_DE K N D E nc) {post : Int32 → Prop} :
    ∀ d i c, D i = d → i < nc → ta_SK K i → c + d ≤ 100 → post (nI (E i)) → wY_drop_5 post (nI (c + d)) ync ytop ybc ylc yvd yel yst yat ypc ydp ytp ykd yke ymN ymL ymD ymT yT yI yW yL ybt ybf yt yv (d + 1) (nI i) (nI c) := by
  have n24 := A.2.1
  intro d
  induction d with
  | zero =>
    intro i c hd hi sk hc hp
    rw [wY_drop_5]
    by_cases h3 : K i = 3
    · obtain ⟨w, t, e0, e1, _⟩ := ta_cons A hi h3
      have := ((H i hi sk).2.1 h3 t e1).1
      omega
    · rw [((H i hi sk).2.2 h3).2] at hp
      exact br_t (nI_le (by omega) (by omega)) hp
  | succ d ih =>
    intro i c hd hi sk hc hp
    rw [wY_drop_5]
    refine br_f (nI_ge (by omega) (by omega)) ?_
    rw [ta_5, nI_clamp (by omega), (Y i hi).1]
    refine ⟨ta_vi (by omega), ?_⟩
    by_cases h3 : K i = 3
    · obtain ⟨w, t, e0, e1, g, l0, l1, sk', p0, p1⟩ := ta_consY A Y hi h3
      have hD := (H i hi sk).2.1 h3 t e1
      refine br_t (congrArg nI h3) ?_
      rw [ta_p2, nI_clamp (by omega), p1]
      refine ⟨ta_vi (by omega), nm_e (nm_r (nI_1 c) ?_)⟩
      rw [show c + (d + 1) = c + 1 + d by omega]
      exact ih t (c + 1) (by omega) (by omega) sk' (by omega) (by rw [← hD.2]; exact hp)
    · have := ((H i hi sk).2.2 h3).1
      omega
theorem ta_ydrop (A : ta_PA K N nc) (Y : ta_YA K N nc yT) (H : ta_DE K N D E nc) {i : Nat} (hi : i < nc) (sk : ta_SK K i) {post : Int32 → Prop} (hp : post (nI (E i))) : wpY_drop post (ync, ytop, ybc, ylc, yvd, yel, yst, yat, ypc, ydp, ytp, ykd, yke, ymN, ymL, ymD, ymT, yT, yI, yW, yL, ybt, ybf, yt, yv) (nI i) (nI (D i)) := by
  have := (H i hi sk).1
  refine ⟨D i + 1, ?_⟩
  have e : nI (D i) = nI (0 + D i) := by rw [Nat.zero_add]
  rw [e]
  exact ta_ydrop5 A Y H (D i) i 0 rfl hi sk (by omega) hp
end
end
section
/-! the terms' images: environments 0 (kept), 1 and 2 (replaced) -/
def ta_vn (nc Lk n : Nat) : Prop := n < nc ∨ (24 ≤ n ∧ n < 24 + Lk)
/-- one node, kept: its word slots, its tail, the rest -/
def ta_FN (K : Nat → Nat) (N : Nat → Nat → Option Nat) (nc Lk : Nat) (xK xP yT : Nat → Int32) (top : Nat) (ρ : Nat → Nat) (n : Nat) : Prop :=
  xK n = nI (K n) ∧ ρ n < top ∧ yT (5 * ρ n) = nI (K n) ∧
  (∀ j, j < K n - 2 → (N n j = none ∧ xP (4 * n + j) = ta_m ∧ yT (5 * ρ n + 1 + j) = ta_m) ∨
     (∃ w, N n j = some w ∧ ta_GW K nc w ∧ w / 4 < n ∧ xP (4 * n + j) = nI w ∧ yT (5 * ρ n + 1 + j) = nI w)) ∧
  (K n = 3 ∨ K n = 5 → ∃ t, N n (K n - 2) = some t ∧ ta_vn nc Lk t ∧ t < n ∧ ta_SK K t ∧ xP (4 * n + (K n - 2)) = nI t ∧ yT (5 * ρ n + 1 + (K n - 2)) = nI (ρ t)) ∧
  (∀ j, j < 4 → K n - 2 ≤ j → ¬ (j = K n - 2 ∧ (K n = 3 ∨ K n = 5)) → yT (5 * ρ n + 1 + j) = ta_m)
def ta_FB (K : Nat → Nat) (N : Nat → Nat → Option Nat) (nc Lk : Nat) (xK xP yT : Nat → Int32) (top : Nat) (ρ : Nat → Nat) : Prop :=
  Lk ≤ 8 ∧ nc ≤ top ∧ ta_Can yT top ∧ (∀ i, i < nc → ρ i = i) ∧ (∀ n, ta_vn nc Lk n → ta_FN K N nc Lk xK xP yT top ρ n)
def ta_V (nc Lk : Nat) (e2 : Prop) (t : Nat) : Prop := (t % 3 = 0 ∧ ta_vn nc Lk (t / 3)) ∨ (t % 3 = 1 ∧ t / 3 < nc) ∨ (t % 3 = 2 ∧ t / 3 < nc ∧ e2)
def ta_ph (ρ g1 g2 : Nat → Nat) (t : Nat) : Nat := if t % 3 = 0 then ρ (t / 3) else if t % 3 = 1 then g1 (t / 3) else g2 (t / 3)
def ta_rs (s z t : Nat) : Nat := if t = 4 then 3 * s else if t = 5 then z else t
section
variable {xmN xmL xmD xmT xnc xlc xbc xvd xel xkd xke xqd xst xat xpc xdp xtp : Int32} {xK xP xL xbt xbf xR xB xQ xS xt xv : Nat → Int32}
variable {ync ytop ybc ylc yvd yel yst yat ypc ydp ytp ykd yke ymN ymL ymD ymT : Int32} {yT yI yW yL ybt ybf yt yv : Nat → Int32}
variable {K : Nat → Nat} {N : Nat → Nat → Option Nat} {nc Lk top : Nat} {ρ g1 g2 : Nat → Nat}
theorem ta_FB_keep {yT' : Nat → Int32} {top' : Nat} (hK : ∀ i, K i ≤ 5) (F : ta_FB K N nc Lk xK xP yT top ρ) (ht : top ≤ top') (hT : ∀ j, j < 5 * top → yT' j = yT j) (C : ta_Can yT' top') :
    ta_FB K N nc Lk xK xP yT' top' ρ := by
  refine ⟨F.1, by have := F.2.1; omega, C, F.2.2.2.1, fun n hn => ?_⟩
  obtain ⟨a, b, c, d, e, f⟩ := F.2.2.2.2 n hn
  have k5 := hK n
  refine ⟨a, by omega, by rw [hT _ (by omega)]; exact c, fun j hj => ?_, fun h => ?_, fun j hj h1 h2 => by rw [hT _ (by omega)]; exact f j hj h1 h2⟩
  · rw [hT _ (by omega)]; exact d j hj
  · rw [hT _ (by omega)]; exact e h
theorem ta_ph0 {t : Nat} (h : t % 3 = 0) : ta_ph ρ g1 g2 t = ρ (t / 3) := by unfold ta_ph; rw [if_pos h]
theorem ta_ph1 {t : Nat} (h : t % 3 = 1) : ta_ph ρ g1 g2 t = g1 (t / 3) := by unfold ta_ph; rw [if_neg (by omega), if_pos h]
theorem ta_ph2 {t : Nat} (h : t % 3 = 2) : ta_ph ρ g1 g2 t = g2 (t / 3) := by unfold ta_ph; rw [if_neg (by omega), if_neg (by omega)]
theorem ta_GWlt {w : Nat} (hn : nc ≤ 24) (h : ta_GW K nc w) : w < 128 := by have := h.1; omega
theorem ta_EqN_map {V : Nat → Prop} {rs φ g : Nat → Nat} (A : ta_PA K N nc) (hx : ∀ n, n < nc → xK n = nI (K n)) {t i e : Nat} (hi : i < nc) (ht : t / 3 = i) (he : t % 3 = e) (he2 : e = 1 ∨ e = 2)
    (F : ta_FN K N nc Lk xK xP yT top ρ i) (hF : ∀ t, ta_vn nc Lk t → t < i → t < nc) (R : ta_RF K N g yT i) (gl : g i < top) (ft : φ t = g i) (f0 : ∀ n, n < nc → φ (3 * n) = n) (fe : ∀ c, c < nc → φ (3 * c + e) = g c)
    (v0 : ∀ n, n < nc → V (3 * n)) (ve : ∀ c, c < nc → V (3 * c + e)) (r0 : ∀ n, n < nc → rs (3 * n) = 3 * n) (re : ∀ c, c < nc → ta_rk (rs (3 * c + e)) < 32 * e + (c + 1)) :
    ta_EqN K xK xP yT top V rs φ t := by
  subst ht he
  obtain ⟨a, b, c, d, e', f⟩ := F
  have k5 := A.2.2.2.2.2.1 (t / 3)
  have n24 := A.2.1
  have hrk : ta_rk t = 32 * (t % 3) + t / 3 := rfl
  unfold ta_EqN
  rw [ft]
  refine ⟨a, gl, R.1, fun j hj => ?_, fun h => ?_, fun j hj h1 h2 => ?_⟩
  · have y := R.2 j (by omega)
    unfold ta_ms at y
    rw [if_pos hj] at y
    unfold ta_EqW
    rw [ft]
    rcases d j hj with ⟨n0, x0, _⟩ | ⟨w, n0, gw, lt, x0, _⟩
    · rw [n0] at y
      exact Or.inl ⟨x0, y⟩
    · rw [n0] at y
      have y' : yT (5 * g (t / 3) + 1 + j) = nI (ta_mw K g w) := y
      have wn := gw.1
      have ka := hx _ wn
      refine Or.inr ⟨w, ta_GWlt n24 gw, x0, ka, ?_⟩
      unfold ta_wt
      unfold ta_mw at y'
      by_cases cl : K (w / 4) = 5 ∧ w % 4 = 1
      · rw [if_pos cl] at y' ⊢
        refine ⟨v0 _ wn, ?_, ?_⟩
        · rw [r0 _ wn, hrk]
          unfold ta_rk
          omega
        · rw [f0 _ wn, y']
          exact congrArg nI (by omega)
      · rw [if_neg cl] at y' ⊢
        refine ⟨ve _ wn, ?_, ?_⟩
        · have := re _ wn
          rw [hrk]
          omega
        · rw [fe _ wn, y']
  · obtain ⟨c, n0, vn, lt, sk, x0, _⟩ := e' h
    have y := R.2 (K (t / 3) - 2) (by omega)
    rw [ta_ms_t rfl n0] at y
    have cn := hF c vn lt
    refine ⟨c, by omega, x0, ve _ cn, ?_, ?_⟩
    · have := re _ cn
      rw [hrk]
      omega
    · rw [ft, fe _ cn]
      exact y
  · have y := R.2 j hj
    unfold ta_ms at y
    rw [if_neg (by omega), ((A.2.2.2.2.2.2.2 _ hi j hj).2 h1).2 h2] at y
    exact y
theorem ta_vn32 {n : Nat} (h1 : nc ≤ 24) (h2 : Lk ≤ 8) (h : ta_vn nc Lk n) : n < 32 := by rcases h with h | h <;> omega
theorem ta_mkEQ (A : ta_PA K N nc) (F : ta_FB K N nc Lk xK xP yT top ρ) (h128 : top ≤ 128) {s z : Nat} {e2 : Prop} (hs : ta_vn nc Lk s) (b1 : xB 1 = nI (3 * s))
    (G1 : ∀ i, i < nc → g1 i < top ∧ (i ≠ 1 → ta_RF K N g1 yT i)) (v1 : g1 1 = ρ s)
    (h2 : e2 → xB 2 = nI z ∧ ta_V nc Lk False z ∧ ¬ (z / 3 = 1 ∧ z % 3 ≠ 0) ∧ g2 1 = ta_ph ρ g1 g2 z ∧ ∀ i, i < nc → g2 i < top ∧ (i ≠ 1 → ta_RF K N g2 yT i)) :
    ta_EQ K xK xP xB yT top (ta_V nc Lk e2) (ta_rs s z) (ta_ph ρ g1 g2) := by
  have n3 := A.1
  have n24 := A.2.1
  have L8 := F.1
  have hx : ∀ n, n < nc → xK n = nI (K n) := fun n hn => (F.2.2.2.2 n (Or.inl hn)).1
  have s32 := ta_vn32 n24 L8 hs
  have r4 : ta_rs s z 4 = 3 * s := by unfold ta_rs; rw [if_pos rfl]
  have r5 : ta_rs s z 5 = z := by unfold ta_rs; rw [if_neg (by omega), if_pos rfl]
  have ro : ∀ t, t ≠ 4 → t ≠ 5 → ta_rs s z t = t := fun t h4 h5 => by unfold ta_rs; rw [if_neg h4, if_neg h5]
  have zz : e2 → z % 3 ≠ 2 ∧ z < 96 := by
    intro h
    rcases (h2 h).2.1 with a | a | a
    · have := ta_vn32 n24 L8 a.2
      omega
    · omega
    · exact a.2.2.elim
  have f0 : ∀ n, n < nc → ta_ph ρ g1 g2 (3 * n) = n := by
    intro n hn
    rw [ta_ph0 (by omega), show 3 * n / 3 = n by omega]
    exact F.2.2.2.1 n hn
  refine ⟨A.2.2.2.2.2.1, fun t ht => ?_, fun t ht => ?_, fun t ht hr => ?_, F.2.2.1, h128⟩
  · have t96 : t < 96 := by
      rcases ht with a | a | a
      · have := ta_vn32 n24 L8 a.2
        omega
      · omega
      · omega
    by_cases h4 : t = 4
    · subst h4
      rw [r4]
      refine ⟨by omega, Or.inl ⟨by omega, by rw [show 3 * s / 3 = s by omega]; exact hs⟩, ?_, by omega⟩
      rw [ta_ph0 (by omega), ta_ph1 (by omega), show 3 * s / 3 = s by omega]
      exact v1.symm
    · by_cases h5 : t = 5
      · subst h5
        have he2 : e2 := by
          rcases ht with a | a | a
          · omega
          · omega
          · exact a.2.2
        obtain ⟨_, vz, rz, gz, _⟩ := h2 he2
        rw [r5]
        refine ⟨by omega, ?_, ?_, rz⟩
        · rcases vz with a | a | a
          · exact Or.inl a
          · exact Or.inr (Or.inl a)
          · exact a.2.2.elim
        · rw [ta_ph2 (t := 5) (by omega)]
          exact gz.symm
      · rw [ro t h4 h5]
        exact ⟨t96, ht, rfl, by omega⟩
  · refine ⟨fun a b => ?_, fun a => ro t (by omega) (by omega)⟩
    by_cases h4 : t = 4
    · subst h4
      rw [r4]; exact b1
    · have h5 : t = 5 := by omega
      subst h5
      have he2 : e2 := by
        rcases ht with a | a | a
        · omega
        · omega
        · exact a.2.2
      rw [r5]; exact (h2 he2).1
  · rcases ht with ⟨a, b⟩ | ⟨a, b⟩ | ⟨a, b, he2⟩
    · -- kept
      obtain ⟨q1, q2, q3, q4, q5, q6⟩ := F.2.2.2.2 _ b
      have n32 := ta_vn32 n24 L8 b
      have hrk : ta_rk t = 32 * (t % 3) + t / 3 := rfl
      have ft : ta_ph ρ g1 g2 t = ρ (t / 3) := ta_ph0 a
      unfold ta_EqN
      rw [ft]
      refine ⟨q1, q2, q3, fun j hj => ?_, fun h => ?_, q6⟩
      · unfold ta_EqW
        rw [ft]
        rcases q4 j hj with ⟨_, x0, y0⟩ | ⟨w, _, gw, lt, x0, y0⟩
        · exact Or.inl ⟨x0, y0⟩
        · have wn := gw.1
          have ew : ta_wt K w (t % 3) = 3 * (w / 4) := by
            unfold ta_wt
            rw [a, Nat.add_zero]
            by_cases cl : K (w / 4) = 5 ∧ w % 4 = 1
            · rw [if_pos cl]
            · rw [if_neg cl]
          refine Or.inr ⟨w, ta_GWlt n24 gw, x0, hx _ wn, ?_⟩
          rw [ew]
          refine ⟨Or.inl ⟨by omega, Or.inl (by omega)⟩, ?_, ?_⟩
          · rw [ro _ (by omega) (by omega), hrk]
            unfold ta_rk
            omega
          · rw [f0 _ wn, y0]
            exact congrArg nI (by omega)
      · obtain ⟨c, _, vc, lt, sk, x0, y0⟩ := q5 h
        have c32 := ta_vn32 n24 L8 vc
        refine ⟨c, c32, x0, ?_, ?_, ?_⟩
        · exact Or.inl ⟨by omega, by rw [a, show (3 * c + 0) / 3 = c by omega]; exact vc⟩
        · rw [ro _ (by omega) (by omega), hrk]
          unfold ta_rk
          omega
        · rw [ft, ta_ph0 (t := 3 * c + t % 3) (by omega), show (3 * c + t % 3) / 3 = c by omega]
          exact y0
    · have i1 : t / 3 ≠ 1 := by
        intro h
        have : t = 4 := by omega
        subst this
        rw [r4] at hr
        omega
      refine ta_EqN_map A hx b rfl a (Or.inl rfl) (F.2.2.2.2 _ (Or.inl b)) (fun x hv hl => by omega) ((G1 _ b).2 i1) (G1 _ b).1 (ta_ph1 a) f0 (fun c hc => ?_) (fun n hn => ?_) (fun c hc => ?_) (fun n hn => ?_) (fun c hc => ?_)
      · rw [ta_ph1 (by omega), show (3 * c + 1) / 3 = c by omega]
      · exact Or.inl ⟨by omega, Or.inl (by omega)⟩
      · exact Or.inr (Or.inl ⟨by omega, by omega⟩)
      · exact ro _ (by omega) (by omega)
      · by_cases c1 : c = 1
        · subst c1
          rw [show 3 * 1 + 1 = 4 by omega, r4]
          unfold ta_rk
          omega
        · rw [ro _ (by omega) (by omega)]
          unfold ta_rk
          omega
    · have i1 : t / 3 ≠ 1 := by
        intro h
        have : t = 5 := by omega
        subst this
        rw [r5] at hr
        have := (zz he2).1
        omega
      have z2 := zz he2
      obtain ⟨_, vz, rz, gz, G2⟩ := h2 he2
      refine ta_EqN_map A hx b rfl a (Or.inr rfl) (F.2.2.2.2 _ (Or.inl b)) (fun x hv hl => by omega) ((G2 _ b).2 i1) (G2 _ b).1 (ta_ph2 a) f0 (fun c hc => ?_) (fun n hn => ?_) (fun c hc => ?_) (fun n hn => ?_) (fun c hc => ?_)
      · rw [ta_ph2 (by omega), show (3 * c + 2) / 3 = c by omega]
      · exact Or.inl ⟨by omega, Or.inl (by omega)⟩
      · exact Or.inr (Or.inr ⟨by omega, by omega, he2⟩)
      · exact ro _ (by omega) (by omega)
      · by_cases c1 : c = 1
        · subst c1
          rw [show 3 * 1 + 2 = 5 by omega, r5]
          unfold ta_rk
          omega
        · rw [ro _ (by omega) (by omega)]
          unfold ta_rk
          omega
end
end
section
/-! what a tail stands for, and the demands of two code types, in lockstep -/
theorem ta_mk1 (x y : Int32) : (x &&& 3) &&& (y ^^^ (-1)) = (x &&& 3) &&& ((y &&& 3) ^^^ (-1)) := by
  apply Int32.toBitVec_inj.mp
  simp only [Int32.toBitVec_and, Int32.toBitVec_xor]
  apply BitVec.eq_of_getLsbD_eq
  intro i hi
  simp only [BitVec.getLsbD_and, BitVec.getLsbD_xor]
  cases x.toBitVec.getLsbD i <;> cases y.toBitVec.getLsbD i <;> cases (3 : Int32).toBitVec.getLsbD i <;> cases (-1 : Int32).toBitVec.getLsbD i <;> rfl
theorem ta_mk2 (x y : Int32) : (x &&& y) &&& 3 = (x &&& 3) &&& y := by
  rw [Int32.and_assoc, Int32.and_comm y 3, ← Int32.and_assoc]
def ta_mk (a b : Nat) : Int32 := nI (a % 4) &&& (nI (b % 4) ^^^ (-1))
theorem ta_mkX {a b : Nat} (ha : a < 2 ^ 31) (hb : b < 2 ^ 31) : (nI a &&& 3) &&& (nI b ^^^ (-1)) = ta_mk a b := by
  rw [ta_mk1, show nI a &&& 3 = nI (a % 4) from ta_and3 ha, show nI b &&& 3 = nI (b % 4) from ta_and3 hb]; rfl
theorem ta_mkY {a b : Nat} (ha : a < 2 ^ 31) (hb : b < 2 ^ 31) : (nI a &&& (nI b ^^^ (-1))) &&& 3 = ta_mk a b := by
  rw [ta_mk2, ta_mkX ha hb]
theorem ta_mkc {a b a' b' : Nat} (h : a % 4 = a' % 4) (h' : b % 4 = b' % 4) : ta_mk a b = ta_mk a' b' := by unfold ta_mk; rw [h, h']
section
variable {xmN xmL xmD xmT xnc xlc xbc xvd xel xkd xke xqd xst xat xpc xdp xtp : Int32} {xK xP xL xbt xbf xR xB xQ xS xt xv : Nat → Int32}
variable {ync ytop ybc ylc yvd yel yst yat ypc ydp ytp ykd yke ymN ymL ymD ymT : Int32} {yT yI yW yL ybt ybf yt yv : Nat → Int32}
variable {K : Nat → Nat} {N : Nat → Nat → Option Nat} {nc top : Nat} {V : Nat → Prop} {rs φ g1 g2 : Nat → Nat}
theorem ta_inst30 (E : ta_EQ K xK xP xB yT top V rs φ) : ∀ (d i τ : Nat), i + d ≤ 100 → V τ → rs τ = τ →
    ∃ r r' : Int32, ((r = ta_m ∧ r' = ta_m) ∨ ∃ τ', V τ' ∧ rs τ' = τ' ∧ r = nI τ' ∧ r' = nI (φ τ')) ∧
      (∀ {xmN xmL xmD xmT xnc xlc xbc xvd xel xkd xke xqd xst xat xpc xdp xtp : Int32} {xL xbt xbf xR xQ xS xt xv : Nat → Int32} (post : Int32 → Prop), post r → wX_instance_30 post (nI (i + d)) xmN xmL xmD xmT xnc xlc xbc xvd xel xkd xke xqd xst xat xpc xdp xtp xK xP xL xbt xbf xR xB xQ xS xt xv (d + 1) (nI τ) (nI i)) ∧
      (∀ {ync ytop ybc ylc yvd yel yst yat ypc ydp ytp ykd yke ymN ymL ymD ymT : Int32} {yI yW yL ybt ybf yt yv : Nat → Int32} (post : Int32 → Prop), post r' → wY_drop_5 post (nI (i + d)) ync ytop ybc ylc yvd yel yst yat ypc ydp ytp ykd yke ymN ymL ymD ymT yT yI yW yL ybt ybf yt yv (d + 1) (nI (φ τ)) (nI i)) := by
  intro d
  induction d with
  | zero =>
    intro i τ hi hv hr
    refine ⟨nI τ, nI (φ τ), Or.inr ⟨τ, hv, hr, rfl, rfl⟩, fun post hp => ?_, fun post hp => ?_⟩
    · rw [wX_instance_30]; exact br_t (nI_le (by omega) (by omega)) hp
    · rw [wY_drop_5]; exact br_t (nI_le (by omega) (by omega)) hp
  | succ d ih =>
    intro i τ hi hv hr
    have t96 := (E.2.1 τ hv).1
    have pl := ta_phi_lt E hv
    have h128 := E.2.2.2.2.2
    obtain ⟨a, b, c, _, et, _⟩ := E.2.2.2.1 τ hv hr
    have k5 := E.1 (τ / 3)
    by_cases h3 : K (τ / 3) = 3
    · obtain ⟨t, t32, x0, vt, _, y0⟩ := et (Or.inl h3)
      rw [h3] at x0 y0
      obtain ⟨r, r', R, GX, GY⟩ := ih (i + 1) (rs (3 * t + τ % 3)) (by omega) (E.2.1 _ vt).2.1 (ta_rsrs E vt)
      rw [(E.2.1 _ vt).2.2.1] at GY
      rw [show i + 1 + d = i + (d + 1) by omega] at GX GY
      refine ⟨r, r', R, fun post hp => ?_, fun post hp => ?_⟩
      · rw [wX_instance_30]
        refine br_f (nI_ge (by omega) (by omega)) ⟨by decide, ?_⟩
        rw [ta_q3 (by omega), ta_d3 (by omega), nI_clamp (by omega), a, ta_4, nI_1, nI_clamp (by omega), x0, ta_3, nI_add]
        refine ⟨ta_vi (by omega), br_t (congrArg nI h3) ⟨by decide, ta_vi (by omega), by decide, nm_e ?_⟩⟩
        refine ta_xres E vt ?_
        exact nm_r (nI_1 i) (GX post hp)
      · rw [wY_drop_5]
        refine br_f (nI_ge (by omega) (by omega)) ?_
        rw [ta_5, nI_clamp (by omega), c, ta_p2, nI_clamp (by omega), y0]
        exact ⟨ta_vi (by omega), br_t (congrArg nI h3) ⟨ta_vi (by omega), nm_e (nm_r (nI_1 i) (GY post hp))⟩⟩
    · refine ⟨ta_m, ta_m, Or.inl ⟨rfl, rfl⟩, fun post hp => ?_, fun post hp => ?_⟩
      · rw [wX_instance_30]
        refine br_f (nI_ge (by omega) (by omega)) ⟨by decide, ?_⟩
        rw [ta_d3 (by omega), nI_clamp (by omega), a]
        exact ⟨ta_vi (by omega), br_f (ta_keq (c := 3) k5 (by omega) h3) hp⟩
      · rw [wY_drop_5]
        refine br_f (nI_ge (by omega) (by omega)) ?_
        rw [ta_5, nI_clamp (by omega), c]
        exact ⟨ta_vi (by omega), br_f (ta_keq (c := 3) k5 (by omega) h3) hp⟩
def ta_YB (yT : Nat → Int32) (a b : Int32) (A B : Prop) : Prop := (a < 0 → A) ∧ (¬ a < 0 → ((b < 0 → B) ∧ (¬ b < 0 → (((a >>> ((2 : Int32) &&& 31)) = (b >>> ((2 : Int32) &&& 31)) → (vp_in (5 * (a >>> ((2 : Int32) &&& 31))) 640 ∧ ((yT (5 * (a >>> ((2 : Int32) &&& 31))).toNatClampNeg = 4 → ((((a &&& (b ^^^ (-1))) &&& 3) = 0 → A) ∧ (¬ ((a &&& (b ^^^ (-1))) &&& 3) = 0 → B))) ∧ (¬ yT (5 * (a >>> ((2 : Int32) &&& 31))).toNatClampNeg = 4 → (((a &&& 3) = (b &&& 3) → A) ∧ (¬ (a &&& 3) = (b &&& 3) → B)))))) ∧ (¬ (a >>> ((2 : Int32) &&& 31)) = (b >>> ((2 : Int32) &&& 31)) → B)))))
/-- what is known of a good word under environment e, with the map g that stands from o on in img -/
def ta_WB (K : Nat → Nat) (nc : Nat) (yT yI xK : Nat → Int32) (V : Nat → Prop) (rs φ : Nat → Nat) (e o : Nat) (g : Nat → Nat) : Prop :=
  ∀ w, ta_GW K nc w → w / 4 < 24 ∧ V (ta_wt K w e) ∧ rs (ta_wt K w e) = ta_wt K w e ∧ ta_wt K w e / 3 = w / 4 ∧ ta_mw K g w = 4 * φ (ta_wt K w e) + w % 4 ∧
    yI (o + w / 4) = nI (g (w / 4)) ∧ yT (5 * (w / 4)) = nI (K (w / 4)) ∧ xK (w / 4) = nI (K (w / 4))
theorem ta_dem1 (E : ta_EQ K xK xP xB yT top V rs φ) (B2 : ta_WB K nc yT yI xK V rs φ 2 24 g2) (B1 : ta_WB K nc yT yI xK V rs φ 1 0 g1)
    {x y : Option Nat} (hx : ∀ w, x = some w → ta_GW K nc w) (hy : ∀ w, y = some w → ta_GW K nc w) {c n r : Nat} (hc : c < 24) (hn : n < 24) (hr : r < 3)
    (yc : yT (5 * c + (r + 1)) = ta_enc x) (yn : yT (5 * n + (r + 1)) = ta_enc y) (q : Int32) (xQ : Nat → Int32) :
    ∃ (rr q' : Int32) (xQ' : Nat → Int32), (rr = nI 0 ∨ rr = nI 1) ∧
      (∀ {xmN xmL xmD xmT xnc xlc xbc xvd xel xkd xke xst xat xpc xdp xtp : Int32} {xL xbt xbf xR xt xv : Nat → Int32} (post : Int32 → SX → Prop), post rr (xmN, xmL, xmD, xmT, xnc, xlc, xbc, xvd, xel, xkd, xke, q', xst, xat, xpc, xdp, xtp, xK, xP, xL, xbt, xbf, xR, xB, xQ', fun _ => 0, xt, xv) → wpX_demandAgrees post (xmN, xmL, xmD, xmT, xnc, xlc, xbc, xvd, xel, xkd, xke, q, xst, xat, xpc, xdp, xtp, xK, xP, xL, xbt, xbf, xR, xB, xQ, fun _ => 0, xt, xv) (ta_enc x) (ta_enc y)) ∧
      (∀ {ync ytop ybc ylc yvd yel yst yat ypc ydp ytp ykd yke ymN ymL ymD ymT : Int32} {yW yL ybt ybf yt yv : Nat → Int32} (post : Int32 → SY → Prop) (f : Nat), ((rr = nI 0 → post 0 (ync, ytop, ybc, ylc, yvd, yel, yst, yat, ypc, ydp, ytp, ykd, yke, ymN, ymL, ymD, ymT, yT, yI, yW, yL, ybt, ybf, yt, yv)) ∧ (rr = nI 1 → wY_suitsCode_106 post (nI c) (nI n) ync ytop ybc ylc yvd yel yst yat ypc ydp ytp ykd yke ymN ymL ymD ymT yT yI yW yL ybt ybf yt yv f (nI (r + 2)))) →
        wY_suitsCode_106 post (nI c) (nI n) ync ytop ybc ylc yvd yel yst yat ypc ydp ytp ykd yke ymN ymL ymD ymT yT yI yW yL ybt ybf yt yv (f + 1) (nI (r + 1))) := by
  have h128 := E.2.2.2.2.2
  -- Y up to its two words
  have ystart : ∀ {ync ytop ybc ylc yvd yel yst yat ypc ydp ytp ykd yke ymN ymL ymD ymT : Int32} {yW yL ybt ybf yt yv : Nat → Int32} (post : Int32 → SY → Prop) (f : Nat),
      ta_YB yT (ta_enc (x.map (ta_mw K g2))) (ta_enc (y.map (ta_mw K g1))) (wY_suitsCode_106 post (nI c) (nI n) ync ytop ybc ylc yvd yel yst yat ypc ydp ytp ykd yke ymN ymL ymD ymT yT yI yW yL ybt ybf yt yv f (nI (r + 2))) (post 0 (ync, ytop, ybc, ylc, yvd, yel, yst, yat, ypc, ydp, ytp, ykd, yke, ymN, ymL, ymD, ymT, yT, yI, yW, yL, ybt, ybf, yt, yv)) →
        wY_suitsCode_106 post (nI c) (nI n) ync ytop ybc ylc yvd yel yst yat ypc ydp ytp ykd yke ymN ymL ymD ymT yT yI yW yL ybt ybf yt yv (f + 1) (nI (r + 1)) := by
    intro ync ytop ybc ylc yvd yel yst yat ypc ydp ytp ykd yke ymN ymL ymD ymT yW yL ybt ybf yt yv post f H
    rw [wY_suitsCode_106]
    have nx : wY_suitsCode_106 post (nI c) (nI n) ync ytop ybc ylc yvd yel yst yat ypc ydp ytp ykd yke ymN ymL ymD ymT yT yI yW yL ybt ybf yt yv f (nI (r + 2)) → ∀ z, z = nI (r + 1) + 1 → wY_suitsCode_106 post (nI c) (nI n) ync ytop ybc ylc yvd yel yst yat ypc ydp ytp ykd yke ymN ymL ymD ymT yT yI yW yL ybt ybf yt yv f z := fun h => nm_r (nI_1 (r + 1)) h
    refine br_f (nI_nlt (a := 3) (b := r + 1) (by omega) (by omega)) ?_
    · rw [ta_5, nI_add, nI_clamp (by omega), yc, ta_5, nI_add, nI_clamp (by omega), yn]
      refine ⟨ta_vi (by omega), ?_⟩
      refine ta_yword (g := g2) (o := 24) E.1 (Or.inr rfl) (fun w hw => ⟨(B2 w (hx w hw)).1, (B2 w (hx w hw)).2.2.2.2.2.2.1, (B2 w (hx w hw)).2.2.2.2.2.1⟩) ?_
      refine ⟨ta_vi (by omega), ?_⟩
      refine ta_yword (g := g1) (o := 0) E.1 (Or.inl rfl) (fun w hw => ⟨(B1 w (hy w hw)).1, (B1 w (hy w hw)).2.2.2.2.2.2.1, (B1 w (hy w hw)).2.2.2.2.2.1⟩) ?_
      refine br_c (fun h => nx (H.1 h)) (fun h => br_c (fun h2 => (H.2 h).1 h2) (fun h2 => ?_))
      have H2 := (H.2 h).2 h2
      refine br_c (fun h3 => ⟨(H2.1 h3).1, br_c (fun h4 => br_c (fun h5 => nx (((H2.1 h3).2.1 h4).1 h5)) (fun h5 => ((H2.1 h3).2.1 h4).2 h5)) (fun h4 => br_c (fun h5 => nx (((H2.1 h3).2.2 h4).1 h5)) (fun h5 => ((H2.1 h3).2.2 h4).2 h5))⟩) (fun h3 => H2.2 h3)
  cases x with
  | none =>
    refine ⟨nI 1, q, xQ, Or.inr rfl, fun post hp => ?_, fun post f hp => ystart post f (br_t (show ta_m < 0 from by decide) (hp.2 rfl))⟩
    exact br_f (show ¬ 0 ≤ ta_m from by decide) hp
  | some w =>
    obtain ⟨w24, vw, rw', dw, mw, _, _, kx⟩ := B2 w (hx w rfl)
    have wl := ta_phi_lt E vw
    have k5 := E.1 (w / 4)
    have ex : ta_enc (Option.map (ta_mw K g2) (some w)) = nI (4 * φ (ta_wt K w 2) + w % 4) := congrArg nI mw
    cases y with
    | none =>
      refine ⟨nI 0, q, xQ, Or.inl rfl, fun post hp => ?_, fun post f hp => ystart post f (br_f ?_ (br_t (show ta_m < 0 from by decide) (hp.1 rfl)))⟩
      · exact br_t (nI_pos' (by omega)) (br_f (show ¬ 0 ≤ ta_m from by decide) hp)
      · rw [ex]; exact nI_pos (by omega)
    | some w' =>
      obtain ⟨w24', vw', rw2, dw', mw', _, _, kx'⟩ := B1 w' (hy w' rfl)
      have wl' := ta_phi_lt E vw'
      have ey : ta_enc (Option.map (ta_mw K g1) (some w')) = nI (4 * φ (ta_wt K w' 1) + w' % 4) := congrArg nI mw'
      obtain ⟨q', xQ', G⟩ := ta_equal E vw vw' xQ
      have kd : yT (5 * φ (ta_wt K w 2)) = nI (K (w / 4)) := by
        have := (E.2.2.2.1 _ vw rw').2.2.1
        rw [dw] at this
        exact this
      -- the marks
      have X66 : ∀ (z : Int32), (z = 0 → ∀ {xmN xmL xmD xmT xnc xlc xbc xvd xel xkd xke xst xat xpc xdp xtp : Int32} {xL xbt xbf xR xt xv : Nat → Int32} (post : Int32 → SX → Prop), post 0 (xmN, xmL, xmD, xmT, xnc, xlc, xbc, xvd, xel, xkd, xke, q, xst, xat, xpc, xdp, xtp, xK, xP, xL, xbt, xbf, xR, xB, xQ, fun _ => 0, xt, xv) → wX_demandAgrees_66 post (nI w) (nI w') z xmN xmL xmD xmT xnc xlc xbc xvd xel xkd xke q xst xat xpc xdp xtp xK xP xL xbt xbf xR xB xQ (fun _ => 0) xt xv) ∧
          (¬ z = 0 → ∀ {xmN xmL xmD xmT xnc xlc xbc xvd xel xkd xke xst xat xpc xdp xtp : Int32} {xL xbt xbf xR xt xv : Nat → Int32} (post : Int32 → SX → Prop), post (nI (if φ (ta_wt K w 2) = φ (ta_wt K w' 1) then 1 else 0)) (xmN, xmL, xmD, xmT, xnc, xlc, xbc, xvd, xel, xkd, xke, q', xst, xat, xpc, xdp, xtp, xK, xP, xL, xbt, xbf, xR, xB, xQ', fun _ => 0, xt, xv) → wX_demandAgrees_66 post (nI w) (nI w') z xmN xmL xmD xmT xnc xlc xbc xvd xel xkd xke q xst xat xpc xdp xtp xK xP xL xbt xbf xR xB xQ (fun _ => 0) xt xv) := by
        intro z
        refine ⟨fun hz => ?_, fun hz => ?_⟩
        · intros
          rename_i post hp
          unfold wX_demandAgrees_66
          refine ta_xwt (e := 2) E.1 (by omega) (by omega) kx ?_
          refine ta_xwt (e := 1) E.1 (by omega) (by omega) kx' ?_
          exact br_t hz hp
        · intros
          rename_i post hp
          unfold wX_demandAgrees_66
          refine ta_xwt (e := 2) E.1 (by omega) (by omega) kx ?_
          refine ta_xwt (e := 1) E.1 (by omega) (by omega) kx' ?_
          refine br_f hz (G _ ?_)
          dsimp only
          by_cases hb : φ (ta_wt K w 2) = φ (ta_wt K w' 1)
          · rw [if_pos hb] at hp ⊢
            exact br_f (by decide) hp
          · rw [if_neg hb] at hp ⊢
            exact br_t rfl hp
      -- X with the marks' truth
      have XX : ∀ z : Int32, (K (w / 4) = 4 → (ta_mk w w' = 0 → z = 1) ∧ (¬ ta_mk w w' = 0 → z = 0)) → (¬ K (w / 4) = 4 → (w % 4 = w' % 4 → z = 1) ∧ (¬ w % 4 = w' % 4 → z = 0)) →
          ∀ {xmN xmL xmD xmT xnc xlc xbc xvd xel xkd xke xst xat xpc xdp xtp : Int32} {xL xbt xbf xR xt xv : Nat → Int32} (post : Int32 → SX → Prop), wX_demandAgrees_66 post (nI w) (nI w') z xmN xmL xmD xmT xnc xlc xbc xvd xel xkd xke q xst xat xpc xdp xtp xK xP xL xbt xbf xR xB xQ (fun _ => 0) xt xv → wpX_demandAgrees post (xmN, xmL, xmD, xmT, xnc, xlc, xbc, xvd, xel, xkd, xke, q, xst, xat, xpc, xdp, xtp, xK, xP, xL, xbt, xbf, xR, xB, xQ, fun _ => 0, xt, xv) (nI w) (nI w') := by
        intro z z1 z2
        intros
        rename_i post hp
        unfold wpX_demandAgrees
        refine br_t (nI_pos' (by omega)) (br_t (nI_pos' (by omega)) ⟨by decide, ?_⟩)
        rw [ta_d4 (by omega), nI_clamp (by omega), kx]
        refine ⟨ta_vi (by omega), ?_⟩
        unfold wX_demandAgrees_29
        rw [ta_mkX (by omega) (by omega), show nI w &&& 3 = nI (w % 4) from ta_and3 (by omega), show nI w' &&& 3 = nI (w' % 4) from ta_and3 (by omega)]
        refine pk_eq (K (w / 4)) 4 (fun h => ?_) (fun h => ?_)
        · refine br_f (by decide) (br_c (fun h2 => ?_) (fun h2 => ?_))
          · rw [(z1 h).1 h2] at hp; exact hp
          · rw [(z1 h).2 h2] at hp; exact hp
        · refine br_t rfl (pk_eq (w % 4) (w' % 4) (fun h2 => ?_) (fun h2 => ?_))
          · rw [(z2 h).1 h2] at hp; exact hp
          · rw [(z2 h).2 h2] at hp; exact hp
      have s2 : nI (4 * φ (ta_wt K w 2) + w % 4) >>> ((2 : Int32) &&& 31) = nI (φ (ta_wt K w 2)) := by
        rw [show nI (4 * φ (ta_wt K w 2) + w % 4) >>> ((2 : Int32) &&& 31) = _ from ta_sh2 (by omega)]
        exact congrArg nI (by omega)
      have s2' : nI (4 * φ (ta_wt K w' 1) + w' % 4) >>> ((2 : Int32) &&& 31) = nI (φ (ta_wt K w' 1)) := by
        rw [show nI (4 * φ (ta_wt K w' 1) + w' % 4) >>> ((2 : Int32) &&& 31) = _ from ta_sh2 (by omega)]
        exact congrArg nI (by omega)
      have m3 : nI (4 * φ (ta_wt K w 2) + w % 4) &&& 3 = nI (w % 4) := by
        rw [show nI (4 * φ (ta_wt K w 2) + w % 4) &&& 3 = _ from ta_and3 (by omega)]
        exact congrArg nI (by omega)
      have m3' : nI (4 * φ (ta_wt K w' 1) + w' % 4) &&& 3 = nI (w' % 4) := by
        rw [show nI (4 * φ (ta_wt K w' 1) + w' % 4) &&& 3 = _ from ta_and3 (by omega)]
        exact congrArg nI (by omega)
      have mm : (nI (4 * φ (ta_wt K w 2) + w % 4) &&& (nI (4 * φ (ta_wt K w' 1) + w' % 4) ^^^ (-1))) &&& 3 = ta_mk w w' := by
        rw [ta_mkY (by omega) (by omega)]
        exact ta_mkc (by omega) (by omega)
      -- Y with the marks' truth
      have YY : ∀ z : Int32, (K (w / 4) = 4 → (ta_mk w w' = 0 → z = 1) ∧ (¬ ta_mk w w' = 0 → z = 0)) → (¬ K (w / 4) = 4 → (w % 4 = w' % 4 → z = 1) ∧ (¬ w % 4 = w' % 4 → z = 0)) →
          ∀ {ync ytop ybc ylc yvd yel yst yat ypc ydp ytp ykd yke ymN ymL ymD ymT : Int32} {yW yL ybt ybf yt yv : Nat → Int32} (post : Int32 → SY → Prop) (f : Nat), (z = 1 → φ (ta_wt K w 2) = φ (ta_wt K w' 1) → wY_suitsCode_106 post (nI c) (nI n) ync ytop ybc ylc yvd yel yst yat ypc ydp ytp ykd yke ymN ymL ymD ymT yT yI yW yL ybt ybf yt yv f (nI (r + 2))) → (¬ (z = 1 ∧ φ (ta_wt K w 2) = φ (ta_wt K w' 1)) → post 0 (ync, ytop, ybc, ylc, yvd, yel, yst, yat, ypc, ydp, ytp, ykd, yke, ymN, ymL, ymD, ymT, yT, yI, yW, yL, ybt, ybf, yt, yv)) →
            wY_suitsCode_106 post (nI c) (nI n) ync ytop ybc ylc yvd yel yst yat ypc ydp ytp ykd yke ymN ymL ymD ymT yT yI yW yL ybt ybf yt yv (f + 1) (nI (r + 1)) := by
        intro z z1 z2
        intros
        rename_i post f ha hb
        refine ystart post f ?_
        unfold ta_YB
        rw [ex, ey, s2, s2', m3, m3', mm, ta_5, nI_clamp (by omega), kd]
        refine br_f (nI_pos (by omega)) (br_f (nI_pos (by omega)) (pk_eq (φ (ta_wt K w 2)) (φ (ta_wt K w' 1)) (fun h => ?_) (fun h => hb (fun z => h z.2))))
        refine ⟨ta_vi (by omega), pk_eq (K (w / 4)) 4 (fun h4 => ?_) (fun h4 => ?_)⟩
        · refine br_c (fun h5 => ha ((z1 h4).1 h5) h) (fun h5 => hb (fun z => ?_))
          rw [(z1 h4).2 h5] at z
          exact absurd z.1 (by decide)
        · refine pk_eq (w % 4) (w' % 4) (fun h5 => ha ((z2 h4).1 h5) h) (fun h5 => hb (fun z => ?_))
          rw [(z2 h4).2 h5] at z
          exact absurd z.1 (by decide)
      obtain ⟨z, z01, z1, z2⟩ : ∃ z : Int32, (z = 0 ∨ z = 1) ∧ (K (w / 4) = 4 → (ta_mk w w' = 0 → z = 1) ∧ (¬ ta_mk w w' = 0 → z = 0)) ∧ (¬ K (w / 4) = 4 → (w % 4 = w' % 4 → z = 1) ∧ (¬ w % 4 = w' % 4 → z = 0)) := by
        by_cases h4 : K (w / 4) = 4
        · by_cases h5 : ta_mk w w' = 0
          · exact ⟨1, Or.inr rfl, fun _ => ⟨fun _ => rfl, fun z => absurd h5 z⟩, fun z => absurd h4 z⟩
          · exact ⟨0, Or.inl rfl, fun _ => ⟨fun z => absurd z h5, fun _ => rfl⟩, fun z => absurd h4 z⟩
        · by_cases h5 : w % 4 = w' % 4
          · exact ⟨1, Or.inr rfl, fun z => absurd z h4, fun _ => ⟨fun _ => rfl, fun z => absurd h5 z⟩⟩
          · exact ⟨0, Or.inl rfl, fun z => absurd z h4, fun _ => ⟨fun z => absurd z h5, fun _ => rfl⟩⟩
      rcases z01 with z0 | z0
      · refine ⟨nI 0, q, xQ, Or.inl rfl, fun post hp => XX z z1 z2 post ((X66 z).1 z0 post hp), fun post f hp => YY z z1 z2 post f (fun h => ?_) (fun _ => hp.1 rfl)⟩
        rw [z0] at h
        exact absurd h (by decide)
      · have zn : ¬ z = 0 := by rw [z0]; decide
        by_cases hb : φ (ta_wt K w 2) = φ (ta_wt K w' 1)
        · refine ⟨nI 1, q', xQ', Or.inr rfl, fun post hp => XX z z1 z2 post ((X66 z).2 zn post (by rw [if_pos hb]; exact hp)), fun post f hp => YY z z1 z2 post f (fun _ _ => hp.2 rfl) (fun h => absurd ⟨z0, hb⟩ h)⟩
        · refine ⟨nI 0, q', xQ', Or.inl rfl, fun post hp => XX z z1 z2 post ((X66 z).2 zn post (by rw [if_neg hb]; exact hp)), fun post f hp => YY z z1 z2 post f (fun _ h => absurd h hb) (fun _ => hp.1 rfl)⟩
theorem ta_dems (E : ta_EQ K xK xP xB yT top V rs φ) (B2 : ta_WB K nc yT yI xK V rs φ 2 24 g2) (B1 : ta_WB K nc yT yI xK V rs φ 1 0 g1) {c n : Nat} (hc : c < 24) (hn : n < 24)
    (hx : ∀ r, r < 3 → ∀ w, N c r = some w → ta_GW K nc w) (hy : ∀ r, r < 3 → ∀ w, N n r = some w → ta_GW K nc w)
    (yc : ∀ r, r < 3 → yT (5 * c + 1 + r) = ta_enc (N c r)) (yn : ∀ r, r < 3 → yT (5 * n + 1 + r) = ta_enc (N n r))
    (xc : ∀ r, r < 3 → xP (4 * c + r) = ta_enc (N c r)) (xn : ∀ r, r < 3 → xP (4 * n + r) = ta_enc (N n r)) :
    ∀ (d r : Nat) (q : Int32) (xQ : Nat → Int32), r + d = 3 → ∃ (rr q' : Int32) (xQ' : Nat → Int32), (rr = nI 0 ∨ rr = nI 1) ∧
      (∀ {xmN xmL xmD xmT xnc xlc xbc xvd xel xkd xke xst xat xpc xdp xtp : Int32} {xL xbt xbf xR xt xv : Nat → Int32} (post : Int32 → SX → Prop), post rr (xmN, xmL, xmD, xmT, xnc, xlc, xbc, xvd, xel, xkd, xke, q', xst, xat, xpc, xdp, xtp, xK, xP, xL, xbt, xbf, xR, xB, xQ', fun _ => 0, xt, xv) → wX_demandsAgree_2 post (nI c) (nI n) (d + 1) (nI r) xmN xmL xmD xmT xnc xlc xbc xvd xel xkd xke q xst xat xpc xdp xtp xK xP xL xbt xbf xR xB xQ (fun _ => 0) xt xv) ∧
      (∀ {ync ytop ybc ylc yvd yel yst yat ypc ydp ytp ykd yke ymN ymL ymD ymT : Int32} {yW yL ybt ybf yt yv : Nat → Int32} (post : Int32 → SY → Prop), post rr (ync, ytop, ybc, ylc, yvd, yel, yst, yat, ypc, ydp, ytp, ykd, yke, ymN, ymL, ymD, ymT, yT, yI, yW, yL, ybt, ybf, yt, yv) → wY_suitsCode_106 post (nI c) (nI n) ync ytop ybc ylc yvd yel yst yat ypc ydp ytp ykd yke ymN ymL ymD ymT yT yI yW yL ybt ybf yt yv (d + 1) (nI (r + 1))) := by
  intro d
  induction d with
  | zero =>
    intro r q xQ hr
    have : r = 3 := by omega
    subst this
    refine ⟨nI 1, q, xQ, Or.inr rfl, fun post hp => ?_, fun post hp => ?_⟩
    · rw [wX_demandsAgree_2]; exact br_t (by decide) hp
    · rw [wY_suitsCode_106]; exact br_t (by decide) hp
  | succ d ih =>
    intro r q xQ hr
    obtain ⟨rr, q1, xQ1, R1, GX, GY⟩ := ta_dem1 E B2 B1 (hx r (by omega)) (hy r (by omega)) hc hn (r := r) (by omega) (by rw [← yc r (by omega)]; exact congrArg yT (by omega)) (by rw [← yn r (by omega)]; exact congrArg yT (by omega)) q xQ
    have xw : ∀ {xmN xmL xmD xmT xnc xlc xbc xvd xel xkd xke xst xat xpc xdp xtp : Int32} {xL xbt xbf xR xt xv : Nat → Int32} (post : Int32 → SX → Prop), ((rr = 0 → post 0 (xmN, xmL, xmD, xmT, xnc, xlc, xbc, xvd, xel, xkd, xke, q1, xst, xat, xpc, xdp, xtp, xK, xP, xL, xbt, xbf, xR, xB, xQ1, fun _ => 0, xt, xv)) ∧ (¬ rr = 0 → wX_demandsAgree_2 post (nI c) (nI n) (d + 1) (nI (r + 1)) xmN xmL xmD xmT xnc xlc xbc xvd xel xkd xke q1 xst xat xpc xdp xtp xK xP xL xbt xbf xR xB xQ1 (fun _ => 0) xt xv)) →
        wX_demandsAgree_2 post (nI c) (nI n) (d + 1 + 1) (nI r) xmN xmL xmD xmT xnc xlc xbc xvd xel xkd xke q xst xat xpc xdp xtp xK xP xL xbt xbf xR xB xQ (fun _ => 0) xt xv := by
      intros
      rename_i post H
      rw [wX_demandsAgree_2]
      refine br_f (nI_ge (a := r) (b := 3) (by omega) (by omega)) ?_
      rw [ta_4, nI_add, nI_clamp (by omega), xc r (by omega), ta_4, nI_add, nI_clamp (by omega), xn r (by omega)]
      refine ⟨ta_vi (by omega), ta_vi (by omega), GX _ ⟨H.1, fun h => nm_r (nI_1 r) (H.2 h)⟩⟩
    rcases R1 with r0 | r1
    · refine ⟨nI 0, q1, xQ1, Or.inl rfl, fun post hp => xw post ⟨fun _ => hp, fun h => absurd r0 h⟩, fun post hp => GY post (d + 1) ⟨fun _ => hp, fun h => ?_⟩⟩
      rw [r0] at h
      exact absurd h (by decide)
    · obtain ⟨r2, q2, xQ2, R2, GX2, GY2⟩ := ih (r + 1) q1 xQ1 (by omega)
      refine ⟨r2, q2, xQ2, R2, fun post hp => xw post ⟨fun h => ?_, fun _ => GX2 post hp⟩, fun post hp => GY post (d + 1) ⟨fun h => ?_, fun _ => GY2 post hp⟩⟩
      · rw [r1] at h; exact absurd h (by decide)
      · rw [r1] at h; exact absurd h (by decide)
end
end
section
/-! fitsWord with suits -/
section
variable {xmN xmL xmD xmT xnc xlc xbc xvd xel xkd xke xqd xst xat xpc xdp xtp : Int32} {xK xP xL xbt xbf xR xB xQ xS xt xv : Nat → Int32}
variable {ync ytop ybc ylc yvd yel yst yat ypc ydp ytp ykd yke ymN ymL ymD ymT : Int32} {yT yI yW yL ybt ybf yt yv : Nat → Int32}
variable {K : Nat → Nat} {N : Nat → Nat → Option Nat} {D E : Nat → Nat} {nc Lk top : Nat} {ρ g1 g2 : Nat → Nat}
theorem ta_YA_keep {yT' : Nat → Int32} (Y : ta_YA K N nc yT) (hn : nc ≤ top) (hT : ∀ j, j < 5 * top → yT' j = yT j) : ta_YA K N nc yT' := by
  intro i hi
  refine ⟨by rw [hT _ (by omega)]; exact (Y i hi).1, fun j hj => by rw [hT _ (by omega)]; exact (Y i hi).2 j hj⟩
theorem ta_GWn1 (A : ta_PA K N nc) {w : Nat} (h : ta_GW K nc w) : w / 4 ≠ 1 := by
  intro e
  have h2 := h.2
  rw [e, A.2.2.2.1] at h2
  omega
theorem ta_WB1 (A : ta_PA K N nc) (X : ta_XA K N nc xK xP) (Y : ta_YA K N nc yT) (hρ : ∀ i, i < nc → ρ i = i) {e2 : Prop} {s z : Nat} (hI : ∀ i, i < nc → yI (0 + i) = nI (g1 i)) :
    ta_WB K nc yT yI xK (ta_V nc Lk e2) (ta_rs s z) (ta_ph ρ g1 g2) 1 0 g1 := by
  intro w gw
  have wn := gw.1
  have n24 := A.2.1
  have w1 := ta_GWn1 A gw
  refine ⟨by omega, ?_⟩
  unfold ta_wt ta_mw
  by_cases cl : K (w / 4) = 5 ∧ w % 4 = 1
  · rw [if_pos cl, if_pos cl]
    refine ⟨Or.inl ⟨by omega, Or.inl (by omega)⟩, ?_, by omega, ?_, hI _ wn, (Y _ wn).1, (X _ wn).1⟩
    · unfold ta_rs; rw [if_neg (by omega), if_neg (by omega)]
    · rw [ta_ph0 (by omega), show 3 * (w / 4) / 3 = w / 4 by omega, hρ _ wn]
      omega
  · rw [if_neg cl, if_neg cl]
    refine ⟨Or.inr (Or.inl ⟨by omega, by omega⟩), ?_, by omega, ?_, hI _ wn, (Y _ wn).1, (X _ wn).1⟩
    · unfold ta_rs; rw [if_neg (by omega), if_neg (by omega)]
    · rw [ta_ph1 (by omega), show (3 * (w / 4) + 1) / 3 = w / 4 by omega]
theorem ta_WB2 (A : ta_PA K N nc) (X : ta_XA K N nc xK xP) (Y : ta_YA K N nc yT) (hρ : ∀ i, i < nc → ρ i = i) {e2 : Prop} (he : e2) {s z : Nat} (hI : ∀ i, i < nc → yI (24 + i) = nI (g2 i)) :
    ta_WB K nc yT yI xK (ta_V nc Lk e2) (ta_rs s z) (ta_ph ρ g1 g2) 2 24 g2 := by
  intro w gw
  have wn := gw.1
  have n24 := A.2.1
  have w1 := ta_GWn1 A gw
  refine ⟨by omega, ?_⟩
  unfold ta_wt ta_mw
  by_cases cl : K (w / 4) = 5 ∧ w % 4 = 1
  · rw [if_pos cl, if_pos cl]
    refine ⟨Or.inl ⟨by omega, Or.inl (by omega)⟩, ?_, by omega, ?_, hI _ wn, (Y _ wn).1, (X _ wn).1⟩
    · unfold ta_rs; rw [if_neg (by omega), if_neg (by omega)]
    · rw [ta_ph0 (by omega), show 3 * (w / 4) / 3 = w / 4 by omega, hρ _ wn]
      omega
  · rw [if_neg cl, if_neg cl]
    refine ⟨Or.inr (Or.inr ⟨by omega, by omega, he⟩), ?_, by omega, ?_, hI _ wn, (Y _ wn).1, (X _ wn).1⟩
    · unfold ta_rs; rw [if_neg (by omega), if_neg (by omega)]
    · rw [ta_ph2 (by omega), show (3 * (w / 4) + 2) / 3 = w / 4 by omega]
/-- Y's suits up to its first map -/
theorem ta_ysu1 (A : ta_PA K N nc) (Y : ta_YA K N nc yT) {hv nd σ : Nat} (gh : ta_GW K nc hv) (gn : ta_GW K nc nd) (hk : K (hv / 4) = K (nd / 4)) (hb : ¬ (K (nd / 4) = 5 ∧ nd % 4 = 1 ∧ hv % 4 ≠ 1)) {post : Int32 → SY → Prop}
    (h : wY_suits_87 post (nI hv) (nI nd) (nI (hv / 4)) (nI (nd / 4)) (nI (K (nd / 4))) ytop (nI (if K (nd / 4) = 5 ∧ nd % 4 = 1 then 1 else σ)) 0 ync ytop ybc ylc yvd yel yst yat ypc ydp ytp ykd yke ymN ymL ymD ymT yT yI yW yL ybt ybf yt yv) : wpY_suits post (ync, ytop, ybc, ylc, yvd, yel, yst, yat, ypc, ydp, ytp, ykd, yke, ymN, ymL, ymD, ymT, yT, yI, yW, yL, ybt, ybf, yt, yv) (nI hv) (nI nd) (nI σ) := by
  have n24 := A.2.1
  have h1 := gh.1
  have h2 := gn.1
  have k5 := A.2.2.2.2.2.1 (nd / 4)
  have kh := (Y _ h1).1
  have kn := (Y _ h2).1
  have e45 : ∀ z0, (z0 = 0 ∧ ¬ (K (nd / 4) = 5 ∧ nd % 4 = 1)) ∨ (z0 = 1 ∧ K (nd / 4) = 5 ∧ nd % 4 = 1) → wY_suits_45 post (nI hv) (nI nd) (nI σ) (nI (hv / 4)) (nI (nd / 4)) (nI (K (nd / 4))) ytop z0 ync ytop ybc ylc yvd yel yst yat ypc ydp ytp ykd yke ymN ymL ymD ymT yT yI yW yL ybt ybf yt yv := by
    intro z0 hz
    unfold wY_suits_45
    rw [ta_5, nI_clamp (by omega), kh, hk]
    refine ⟨ta_vi (by omega), br_t rfl ?_⟩
    rcases hz with ⟨z, c⟩ | ⟨z, c⟩
    · subst z
      rw [if_neg c] at h
      exact br_t rfl (br_t rfl h)
    · subst z
      rw [if_pos c] at h
      refine br_f (by decide) (br_t ?_ (br_f (by decide) h))
      rw [show nI hv &&& 3 = nI (hv % 4) from ta_and3 (by omega), show hv % 4 = 1 by omega]; rfl
  unfold wpY_suits
  refine nm_r (e' := nI (hv / 4)) (ta_sh2 (by omega)) (nm_r (e' := nI (nd / 4)) (ta_sh2 (by omega)) ?_)
  rw [ta_5, nI_clamp (by omega), kn]
  refine ⟨ta_vi (by omega), nm_e (pk_eq (K (nd / 4)) 5 (fun c => ?_) (fun c => ?_))⟩
  · rw [show nI nd &&& 3 = nI (nd % 4) from ta_and3 (by omega)]
    exact pk_eq (nd % 4) 1 (fun c2 => e45 1 (Or.inr ⟨rfl, c, c2⟩)) (fun c2 => e45 0 (Or.inl ⟨rfl, fun z => c2 z.2⟩))
  · exact e45 0 (Or.inl ⟨rfl, fun z => c z.1⟩)
theorem ta_ysu0 (A : ta_PA K N nc) (Y : ta_YA K N nc yT) {hv nd : Nat} {σ : Int32} (gh : ta_GW K nc hv) (gn : ta_GW K nc nd) (hb : ¬ K (hv / 4) = K (nd / 4) ∨ (K (nd / 4) = 5 ∧ nd % 4 = 1 ∧ hv % 4 ≠ 1)) {post : Int32 → SY → Prop}
    (hp : post 0 (ync, ytop, ybc, ylc, yvd, yel, yst, yat, ypc, ydp, ytp, ykd, yke, ymN, ymL, ymD, ymT, yT, yI, yW, yL, ybt, ybf, yt, yv)) : wpY_suits post (ync, ytop, ybc, ylc, yvd, yel, yst, yat, ypc, ydp, ytp, ykd, yke, ymN, ymL, ymD, ymT, yT, yI, yW, yL, ybt, ybf, yt, yv) (nI hv) (nI nd) σ := by
  have n24 := A.2.1
  have h1 := gh.1
  have h2 := gn.1
  have k5 := A.2.2.2.2.2.1 (nd / 4)
  have k5' := A.2.2.2.2.2.1 (hv / 4)
  have kh := (Y _ h1).1
  have kn := (Y _ h2).1
  have e45 : ∀ z0, (z0 = 0 ∧ ¬ (K (nd / 4) = 5 ∧ nd % 4 = 1)) ∨ (z0 = 1 ∧ K (nd / 4) = 5 ∧ nd % 4 = 1) → wY_suits_45 post (nI hv) (nI nd) σ (nI (hv / 4)) (nI (nd / 4)) (nI (K (nd / 4))) ytop z0 ync ytop ybc ylc yvd yel yst yat ypc ydp ytp ykd yke ymN ymL ymD ymT yT yI yW yL ybt ybf yt yv := by
    intro z0 hz
    unfold wY_suits_45
    rw [ta_5, nI_clamp (by omega), kh]
    refine ⟨ta_vi (by omega), pk_eq (K (hv / 4)) (K (nd / 4)) (fun hk => ?_) (fun _ => hp)⟩
    rcases hb with hb | hb
    · exact absurd hk hb
    · rcases hz with ⟨z, c⟩ | ⟨z, c⟩
      · exact absurd ⟨hb.1, hb.2.1⟩ c
      · subst z
        refine br_f (by decide) ?_
        rw [show nI hv &&& 3 = nI (hv % 4) from ta_and3 (by omega)]
        exact pk_eq (hv % 4) 1 (fun c => absurd c hb.2.2) (fun _ => hp)
  unfold wpY_suits
  refine nm_r (e' := nI (hv / 4)) (ta_sh2 (by omega)) (nm_r (e' := nI (nd / 4)) (ta_sh2 (by omega)) ?_)
  rw [ta_5, nI_clamp (by omega), kn]
  refine ⟨ta_vi (by omega), nm_e (pk_eq (K (nd / 4)) 5 (fun c => ?_) (fun c => ?_))⟩
  · rw [show nI nd &&& 3 = nI (nd % 4) from ta_and3 (by omega)]
    exact pk_eq (nd % 4) 1 (fun c2 => e45 1 (Or.inr ⟨rfl, c, c2⟩)) (fun c2 => e45 0 (Or.inl ⟨rfl, fun z => c2 z.2⟩))
  · exact e45 0 (Or.inl ⟨rfl, fun z => c z.1⟩)
/-- X's fitsWord up to the kinds -/
theorem ta_xfw (A : ta_PA K N nc) (X : ta_XA K N nc xK xP) {hv nd : Nat} {σ : Int32} (gh : ta_GW K nc hv) (gn : ta_GW K nc nd) {post : Int32 → SX → Prop}
    (h0 : ¬ K (hv / 4) = K (nd / 4) → post 0 (xmN, xmL, xmD, xmT, xnc, xlc, xbc, xvd, xel, xkd, xke, xqd, xst, xat, xpc, xdp, xtp, xK, xP, xL, xbt, xbf, xR, xB, xQ, xS, xt, xv)) (h5 : K (hv / 4) = K (nd / 4) → K (nd / 4) = 5 → wpX_fitsCode (fun r u => narrow .boolean (.int r) = .int r ∧ post r u) (xmN, xmL, xmD, xmT, xnc, xlc, xbc, xvd, xel, xkd, xke, xqd, xst, xat, xpc, xdp, xtp, xK, xP, xL, xbt, xbf, xR, xB, xQ, xS, xt, xv) (nI hv) (nI nd) σ)
    (h4 : K (hv / 4) = K (nd / 4) → K (nd / 4) = 4 → (ta_mk nd hv = 0 → wpX_equal (fun r u => (r = 0 → post 0 u) ∧ (¬ r = 0 → post 1 u)) (xmN, xmL, xmD, xmT, xnc, xlc, xbc, xvd, xel, xkd, xke, xqd, xst, xat, xpc, xdp, xtp, xK, xP, xL, xbt, xbf, xR, upd xB 1 (3 * σ), xQ, xS, xt, xv) (nI (3 * (hv / 4))) (nI (3 * (nd / 4) + 1))) ∧ (¬ ta_mk nd hv = 0 → post 0 (xmN, xmL, xmD, xmT, xnc, xlc, xbc, xvd, xel, xkd, xke, xqd, xst, xat, xpc, xdp, xtp, xK, xP, xL, xbt, xbf, xR, upd xB 1 (3 * σ), xQ, xS, xt, xv)))
    (h2 : K (hv / 4) = K (nd / 4) → K (nd / 4) ≠ 5 → K (nd / 4) ≠ 4 → post 1 (xmN, xmL, xmD, xmT, xnc, xlc, xbc, xvd, xel, xkd, xke, xqd, xst, xat, xpc, xdp, xtp, xK, xP, xL, xbt, xbf, xR, xB, xQ, xS, xt, xv)) : wpX_fitsWord post (xmN, xmL, xmD, xmT, xnc, xlc, xbc, xvd, xel, xkd, xke, xqd, xst, xat, xpc, xdp, xtp, xK, xP, xL, xbt, xbf, xR, xB, xQ, xS, xt, xv) (nI hv) (nI nd) σ := by
  have n24 := A.2.1
  have g1 := gh.1
  have g2 := gn.1
  have k5 := A.2.2.2.2.2.1 (nd / 4)
  have k5' := A.2.2.2.2.2.1 (hv / 4)
  unfold wpX_fitsWord
  refine ⟨by decide, ?_⟩
  rw [ta_d4 (n := nd) (by omega), ta_d4 (n := hv) (by omega), nI_clamp (by omega), nI_clamp (by omega), (X _ g1).1, (X _ g2).1, ta_mkX (by omega) (by omega), ta_3, ta_3, nI_1]
  refine ⟨ta_vi (by omega), nm_e ⟨by decide, ta_vi (by omega), pk_eq (K (hv / 4)) (K (nd / 4)) (fun hk => ?_) h0⟩⟩
  refine pk_eq (K (nd / 4)) 5 (fun c => ?_) (fun c => pk_eq (K (nd / 4)) 4 (fun c4 => ?_) (fun c4 => h2 hk c c4))
  · exact h5 hk c
  · refine nm_e (br_c (fun hm => ⟨by decide, by decide, ?_⟩) (fun hm => (h4 hk c4).2 hm))
    exact (h4 hk c4).1 hm
end
end
section
/-! fitsWord with suits: the three kinds -/
section
variable {xmN xmL xmD xmT xnc xlc xbc xvd xel xkd xke xqd xst xat xpc xdp xtp : Int32} {xK xP xL xbt xbf xR xB xQ xS xt xv : Nat → Int32}
variable {ync ytop ybc ylc yvd yel yst yat ypc ydp ytp ykd yke ymN ymL ymD ymT : Int32} {yT yI yW yL ybt ybf yt yv : Nat → Int32}
variable {K : Nat → Nat} {N : Nat → Nat → Option Nat} {D E : Nat → Nat} {nc Lk top : Nat} {ρ g1 g2 : Nat → Nat}
/-- the outcome that both sides share -/
def ta_Fit (K : Nat → Nat) (nc top : Nat) (ρ : Nat → Nat) (xK xP xB xQ yT yI : Nat → Int32) (q : Int32) (hv nd s : Nat) : Prop :=
  ∃ (r q' : Int32) (xB' xQ' yT' yI' : Nat → Int32), (r = nI 0 ∨ r = nI 1) ∧ (∀ j, j < 5 * top → yT' j = yT j) ∧
    (∀ {xmN xmL xmD xmT xnc xlc xbc xvd xel xkd xke xst xat xpc xdp xtp : Int32} {xL xbt xbf xR xt xv : Nat → Int32} (post : Int32 → SX → Prop), post r (xmN, xmL, xmD, xmT, xnc, xlc, xbc, xvd, xel, xkd, xke, q', xst, xat, xpc, xdp, xtp, xK, xP, xL, xbt, xbf, xR, xB', xQ', fun _ => 0, xt, xv) → wpX_fitsWord post (xmN, xmL, xmD, xmT, xnc, xlc, xbc, xvd, xel, xkd, xke, q, xst, xat, xpc, xdp, xtp, xK, xP, xL, xbt, xbf, xR, xB, xQ, fun _ => 0, xt, xv) (nI hv) (nI nd) (nI s)) ∧
    (∀ {ybc ylc yvd yel yst yat ypc ydp ytp ykd yke ymN ymL ymD ymT : Int32} {yW yL ybt ybf yt yv : Nat → Int32} (post : Int32 → SY → Prop), post r (nI nc, nI top, ybc, ylc, yvd, yel, yst, yat, ypc, ydp, ytp, ykd, yke, ymN, ymL, ymD, ymT, yT', yI', yW, yL, ybt, ybf, yt, yv) → wpY_suits post (nI nc, nI top, ybc, ylc, yvd, yel, yst, yat, ypc, ydp, ytp, ykd, yke, ymN, ymL, ymD, ymT, yT, yI, yW, yL, ybt, ybf, yt, yv) (nI hv) (nI nd) (nI (ρ s)))
theorem ta_fit4 (A : ta_PA K N nc) (X : ta_XA K N nc xK xP) (Y : ta_YA K N nc yT) (F : ta_FB K N nc Lk xK xP yT top ρ) (h80 : top + 48 ≤ 128) {hv nd s : Nat} (gh : ta_GW K nc hv) (gn : ta_GW K nc nd) (vs : ta_vn nc Lk s)
    (hk : K (hv / 4) = K (nd / 4)) (k4 : K (nd / 4) = 4) (q : Int32) : ta_Fit K nc top ρ xK xP xB xQ yT yI q hv nd s := by
  have n3 := A.1
  have n24 := A.2.1
  have h1 := gh.1
  have h2 := gn.1
  have s32 := ta_vn32 n24 F.1 vs
  obtain ⟨top', yT', yI', g1, t1, t2, C', T', R', I', GY⟩ := ta_replace A Y F.2.2.1 F.2.1 (o := 0) (s := ρ s) (Or.inl rfl) (by omega) (F.2.2.2.2 s vs).2.1 yI
  have F' := ta_FB_keep A.2.2.2.2.2.1 F t1 T' C'
  have EQ := ta_mkEQ (xB := upd xB 1 (nI (3 * s))) (g2 := g1) (z := 0) (e2 := False) A F' (by omega) vs pk_us (fun i hi => ⟨(R' i hi).2.1, (R' i hi).2.2.2⟩) ((R' 1 (by omega)).2.2.1 rfl) (fun z => z.elim)
  have va : ta_V nc Lk False (3 * (hv / 4)) := Or.inl ⟨by omega, Or.inl (by omega)⟩
  have vb : ta_V nc Lk False (3 * (nd / 4) + 1) := Or.inr (Or.inl ⟨by omega, by omega⟩)
  have pa : ta_ph ρ g1 g1 (3 * (hv / 4)) = hv / 4 := by rw [ta_ph0 (by omega), show 3 * (hv / 4) / 3 = hv / 4 by omega]; exact F.2.2.2.1 _ h1
  have pb : ta_ph ρ g1 g1 (3 * (nd / 4) + 1) = g1 (nd / 4) := by rw [ta_ph1 (by omega), show (3 * (nd / 4) + 1) / 3 = nd / 4 by omega]
  have gl := (R' _ h2).2.1
  have iR := (R' _ h2).1
  rw [Nat.zero_add] at iR
  have ynarrow : ∀ b : Int32, b = nI 0 ∨ b = nI 1 → narrow .boolean (.int b) = .int b := by intro b hb; rcases hb with h | h <;> rw [h] <;> rfl
  -- Y's end, by its two tests
  have yend : ∀ {ybc ylc yvd yel yst yat ypc ydp ytp ykd yke ymN ymL ymD ymT : Int32} {yW yL ybt ybf yt yv : Nat → Int32} (post : Int32 → SY → Prop), (g1 (nd / 4) = hv / 4 ∧ ta_mk nd hv = 0 → post 1 (nI nc, nI top, ybc, ylc, yvd, yel, yst, yat, ypc, ydp, ytp, ykd, yke, ymN, ymL, ymD, ymT, yT', yI', yW, yL, ybt, ybf, yt, yv)) → (¬ (g1 (nd / 4) = hv / 4 ∧ ta_mk nd hv = 0) → post 0 (nI nc, nI top, ybc, ylc, yvd, yel, yst, yat, ypc, ydp, ytp, ykd, yke, ymN, ymL, ymD, ymT, yT', yI', yW, yL, ybt, ybf, yt, yv)) →
      wpY_suits post (nI nc, nI top, ybc, ylc, yvd, yel, yst, yat, ypc, ydp, ytp, ykd, yke, ymN, ymL, ymD, ymT, yT, yI, yW, yL, ybt, ybf, yt, yv) (nI hv) (nI nd) (nI (ρ s)) := by
    intro ybc ylc yvd yel yst yat ypc ydp ytp ykd yke ymN ymL ymD ymT yW yL ybt ybf yt yv post hp1 hp0
    refine ta_ysu1 A Y gh gn hk (by omega) ?_
    rw [if_neg (by omega), k4]
    unfold wY_suits_87
    refine GY _ ?_
    dsimp only
    have e124 : (g1 (nd / 4) = hv / 4 ∧ ta_mk nd hv = 0) → wY_suits_124 post (nI hv) (nI (hv / 4)) (nI (nd / 4)) (nI 4) (nI top) (nI nc) (nI top') ybc ylc yvd yel yst yat ypc ydp ytp ykd yke ymN ymL ymD ymT yT' yI' yW yL ybt ybf yt yv :=
      fun h => br_f (by decide) ⟨rfl, hp1 h⟩
    have e128 : ¬ (g1 (nd / 4) = hv / 4 ∧ ta_mk nd hv = 0) → wY_suits_128 post (nI hv) (nI (hv / 4)) (nI (nd / 4)) (nI 4) (nI top) (nI nc) (nI top') ybc ylc yvd yel yst yat ypc ydp ytp ykd yke ymN ymL ymD ymT yT' yI' yW yL ybt ybf yt yv :=
      fun h => br_f (by decide) ⟨rfl, hp0 h⟩
    rw [nI_clamp (by omega), iR, ta_mkY (by omega) (by omega)]
    refine br_f (by decide) (br_t rfl ⟨ta_vi (by omega), ?_⟩)
    refine pk_eq (g1 (nd / 4)) (hv / 4) (fun c => br_c (fun m => e124 ⟨c, m⟩) (fun m => e128 (fun z => m z.2))) (fun c => e128 (fun z => c z.1))
  by_cases hm : ta_mk nd hv = 0
  · obtain ⟨q', xQ', GX⟩ := ta_equal EQ va vb xQ
    rw [pa, pb] at GX
    by_cases he : hv / 4 = g1 (nd / 4)
    · rw [if_pos he] at GX
      refine ⟨nI 1, q', upd xB 1 (nI (3 * s)), xQ', yT', yI', Or.inr rfl, T', fun post hp => ?_, fun post hp => yend post (fun _ => hp) (fun z => absurd ⟨he.symm, hm⟩ z)⟩
      refine ta_xfw A X gh gn (fun z => absurd hk z) (fun _ z => by omega) (fun _ _ => ⟨fun _ => ?_, fun z => absurd hm z⟩) (fun _ _ z => absurd k4 z)
      rw [ta_3]
      exact GX _ ⟨fun z => absurd z (by decide), fun _ => hp⟩
    · rw [if_neg he] at GX
      refine ⟨nI 0, q', upd xB 1 (nI (3 * s)), xQ', yT', yI', Or.inl rfl, T', fun post hp => ?_, fun post hp => yend post (fun z => absurd z.1.symm he) (fun _ => hp)⟩
      refine ta_xfw A X gh gn (fun z => absurd hk z) (fun _ z => by omega) (fun _ _ => ⟨fun _ => ?_, fun z => absurd hm z⟩) (fun _ _ z => absurd k4 z)
      rw [ta_3]
      exact GX _ ⟨fun _ => hp, fun z => absurd rfl z⟩
  · refine ⟨nI 0, q, upd xB 1 (nI (3 * s)), xQ, yT', yI', Or.inl rfl, T', fun post hp => ?_, fun post hp => yend post (fun z => absurd z.2 hm) (fun _ => hp)⟩
    refine ta_xfw A X gh gn (fun z => absurd hk z) (fun _ z => by omega) (fun _ _ => ⟨fun z => absurd z hm, fun _ => ?_⟩) (fun _ _ z => absurd k4 z)
    rw [ta_3]
    exact hp
theorem ta_fit2 (A : ta_PA K N nc) (X : ta_XA K N nc xK xP) (Y : ta_YA K N nc yT) (F : ta_FB K N nc Lk xK xP yT top ρ) (h80 : top + 48 ≤ 128) {hv nd s : Nat} (gh : ta_GW K nc hv) (gn : ta_GW K nc nd) (vs : ta_vn nc Lk s)
    (hk : K (hv / 4) = K (nd / 4)) (k2 : K (nd / 4) = 2) (q : Int32) : ta_Fit K nc top ρ xK xP xB xQ yT yI q hv nd s := by
  have n3 := A.1
  have n24 := A.2.1
  have h1 := gh.1
  have h2 := gn.1
  obtain ⟨top', yT', yI', g1, t1, t2, C', T', R', I', GY⟩ := ta_replace A Y F.2.2.1 F.2.1 (o := 0) (s := ρ s) (Or.inl rfl) (by omega) (F.2.2.2.2 s vs).2.1 yI
  refine ⟨nI 1, q, xB, xQ, yT', yI', Or.inr rfl, T', fun post hp => ?_, fun post hp => ?_⟩
  · exact ta_xfw A X gh gn (fun z => absurd hk z) (fun _ z => by omega) (fun _ z => by omega) (fun _ _ _ => hp)
  · refine ta_ysu1 A Y gh gn hk (by omega) ?_
    rw [if_neg (by omega), k2]
    unfold wY_suits_87
    refine GY _ ?_
    exact br_t rfl (br_f (by decide) ⟨rfl, hp⟩)
theorem ta_fit0 (A : ta_PA K N nc) (X : ta_XA K N nc xK xP) (Y : ta_YA K N nc yT) {hv nd s : Nat} (gh : ta_GW K nc hv) (gn : ta_GW K nc nd)
    (hk : ¬ K (hv / 4) = K (nd / 4)) (q : Int32) : ta_Fit K nc top ρ xK xP xB xQ yT yI q hv nd s := by
  refine ⟨nI 0, q, xB, xQ, yT, yI, Or.inl rfl, fun _ _ => rfl, fun post hp => ?_, fun post hp => ?_⟩
  · exact ta_xfw A X gh gn (fun _ => hp) (fun z => absurd z hk) (fun z => absurd z hk) (fun z => absurd z hk)
  · exact ta_ysu0 A Y gh gn (Or.inl hk) hp
end
end
section
/-! fitsWord with suits: code types -/
section
variable {xmN xmL xmD xmT xnc xlc xbc xvd xel xkd xke xqd xst xat xpc xdp xtp : Int32} {xK xP xL xbt xbf xR xB xQ xS xt xv : Nat → Int32}
variable {ync ytop ybc ylc yvd yel yst yat ypc ydp ytp ykd yke ymN ymL ymD ymT : Int32} {yT yI yW yL ybt ybf yt yv : Nat → Int32}
variable {K : Nat → Nat} {N : Nat → Nat → Option Nat} {D E : Nat → Nat} {nc Lk top : Nat} {ρ g1 g2 : Nat → Nat}
theorem ta_code (A : ta_PA K N nc) (X : ta_XA K N nc xK xP) (Y : ta_YA K N nc yT) {i : Nat} (hi : i < nc) (h5 : K i = 5) :
    ∃ t, N i 3 = some t ∧ t < i ∧ ta_SK K t ∧ xP (4 * i + 3) = nI t ∧ yT (5 * i + 4) = nI t ∧ (∀ r, r < 3 → xP (4 * i + r) = ta_enc (N i r)) ∧ (∀ r, r < 3 → ∀ w, N i r = some w → ta_GW K nc w) ∧
      (∀ r, r < 3 → yT (5 * i + 1 + r) = ta_enc (N i r)) := by
  have S := A.2.2.2.2.2.2.2 i hi
  obtain ⟨t, e, lt, sk⟩ := ((S 3 (by omega)).2 (by omega)).1 ⟨by omega, Or.inr h5⟩
  have p4 : ta_pt 5 = 4 := rfl
  refine ⟨t, e, lt, sk, ?_, ?_, fun r hr => ?_, fun r hr w hw => (((S r (by omega)).1 (by omega)).1 w hw).1, fun r hr => (Y i hi).2 r (by omega)⟩
  · have := (X i hi).2 3 (by omega)
    rw [h5, if_pos (by decide), e] at this
    exact this
  · have := (Y i hi).2 3 (by omega)
    rw [e] at this
    exact this
  · have := (X i hi).2 r (by omega)
    rw [h5, p4, if_pos (by omega)] at this
    exact this
theorem ta_xfc {hv nd c n sc sn s : Nat} (hc : hv / 4 = c) (hn : nd / 4 = n) (c24 : c < 24) (n24 : n < 24) (s32 : s < 32) (pc : xP (4 * c + 3) = nI sc) (pn : xP (4 * n + 3) = nI sn) (hb : ¬ (nd % 4 = 1 ∧ hv % 4 ≠ 1)) {post : Int32 → SX → Prop}
    (h : wX_fitsCode_93 post (if hv % 4 = 1 then 1 else 0) (nI c) (nI n) (nI sc) (nI sn) (nI (3 * (if nd % 4 = 1 then 1 else s))) 1 xmN xmL xmD xmT xnc xlc xbc xvd xel xkd xke xqd xst xat xpc xdp xtp xK xP xL xbt xbf xR xB xQ xS xt xv) : wpX_fitsCode post (xmN, xmL, xmD, xmT, xnc, xlc, xbc, xvd, xel, xkd, xke, xqd, xst, xat, xpc, xdp, xtp, xK, xP, xL, xbt, xbf, xR, xB, xQ, xS, xt, xv) (nI hv) (nI nd) (nI s) := by
  have e40 : ∀ x5 : Int32, ((x5 = 0 ∧ nd % 4 ≠ 1) ∨ (x5 = 1 ∧ nd % 4 = 1)) → wX_fitsCode_40 post (nI hv) (nI nd) (nI s) (if hv % 4 = 1 then 1 else 0) x5 xmN xmL xmD xmT xnc xlc xbc xvd xel xkd xke xqd xst xat xpc xdp xtp xK xP xL xbt xbf xR xB xQ xS xt xv := by
    intro x5 hx
    unfold wX_fitsCode_40
    refine ⟨by decide, nm_r (e' := nI c) (by rw [ta_d4 (by omega), hc]) ⟨by decide, nm_r (e' := nI n) (by rw [ta_d4 (by omega), hn]) ?_⟩⟩
    rw [ta_4, ta_p3, nI_clamp (by omega), pc, ta_4, ta_p3, nI_clamp (by omega), pn, ta_3]
    refine ⟨ta_vi (by omega), nm_e ⟨ta_vi (by omega), nm_e ?_⟩⟩
    rcases hx with ⟨a, b⟩ | ⟨a, b⟩
    · rw [if_neg b] at h
      exact br_t a h
    · rw [if_pos b] at h
      exact br_f (by rw [a]; decide) h
  unfold wpX_fitsCode
  rw [show nI hv &&& 3 = nI (hv % 4) from ta_and3 (by omega)]
  have e12 : ∀ z0 : Int32, z0 = (if hv % 4 = 1 then 1 else 0) → wX_fitsCode_12 post (nI hv) (nI nd) (nI s) z0 xmN xmL xmD xmT xnc xlc xbc xvd xel xkd xke xqd xst xat xpc xdp xtp xK xP xL xbt xbf xR xB xQ xS xt xv := by
    intro z0 hz
    unfold wX_fitsCode_12
    rw [show nI nd &&& 3 = nI (nd % 4) from ta_and3 (by omega)]
    refine pk_eq (nd % 4) 1 (fun c1 => ?_) (fun c1 => ?_)
    · have : hv % 4 = 1 := by omega
      rw [if_pos this] at hz
      refine br_f (by decide) (br_f (by rw [hz]; decide) ?_)
      have e := e40 1 (Or.inr ⟨rfl, c1⟩)
      rw [if_pos this] at e
      rw [hz]
      exact e
    · refine br_t rfl ?_
      rw [hz]
      exact e40 0 (Or.inl ⟨rfl, c1⟩)
  refine pk_eq (hv % 4) 1 (fun c1 => e12 1 (by rw [if_pos c1])) (fun c1 => e12 0 (by rw [if_neg c1]))
theorem ta_xfc0 {hv nd : Nat} {σ : Int32} (h1 : hv < 128) (h2 : nd < 128) (hb : nd % 4 = 1 ∧ hv % 4 ≠ 1) {post : Int32 → SX → Prop} (hp : post 0 (xmN, xmL, xmD, xmT, xnc, xlc, xbc, xvd, xel, xkd, xke, xqd, xst, xat, xpc, xdp, xtp, xK, xP, xL, xbt, xbf, xR, xB, xQ, xS, xt, xv)) : wpX_fitsCode post (xmN, xmL, xmD, xmT, xnc, xlc, xbc, xvd, xel, xkd, xke, xqd, xst, xat, xpc, xdp, xtp, xK, xP, xL, xbt, xbf, xR, xB, xQ, xS, xt, xv) (nI hv) (nI nd) σ := by
  unfold wpX_fitsCode
  rw [show nI hv &&& 3 = nI (hv % 4) from ta_and3 (by omega)]
  refine pk_eq (hv % 4) 1 (fun c1 => absurd c1 hb.2) (fun c1 => ?_)
  unfold wX_fitsCode_12
  rw [show nI nd &&& 3 = nI (nd % 4) from ta_and3 (by omega)]
  exact pk_eq (nd % 4) 1 (fun c1 => br_f (by decide) (br_t rfl hp)) (fun c1 => absurd hb.1 c1)
theorem ta_ph_ne2 {g2' : Nat → Nat} {t : Nat} (h : t % 3 ≠ 2) : ta_ph ρ g1 g2 t = ta_ph ρ g1 g2' t := by
  unfold ta_ph
  by_cases h0 : t % 3 = 0
  · rw [if_pos h0, if_pos h0]
  · rw [if_neg h0, if_neg h0, if_pos (by omega), if_pos (by omega)]
/-- what the tail variable stands for, on both sides -/
theorem ta_zst (A : ta_PA K N nc) (H : ta_DE K N D E nc) (X : ta_XA K N nc xK xP) (Y : ta_YA K N nc yT) {V : Nat → Prop} {rs φ : Nat → Nat} {s1 : Nat} (EQ : ta_EQ K xK xP (upd xB 1 (nI (3 * s1))) yT top V rs φ)
    {c n sc sn hv : Nat} (hcn : c < nc) (hnn : n < nc) (scc : sc < nc) (skc : ta_SK K sc) (snn : sn < nc) (pc : yT (5 * c + 4) = nI sc) (pn : yT (5 * n + 4) = nI sn) (iv : yI sn = nI (φ (3 * sn + 1)))
    (v0 : V 0) (v3 : V 3) (vs : V (3 * sn + 1)) (r0 : rs 0 = 0) (r3 : rs 3 = 3) (f0 : φ 0 = 0) (f3 : φ 3 = 1) (hE : E sc = 0 ∨ E sc = 1) :
    ∃ rz rz' : Int32, ((rz = ta_m ∧ rz' = ta_m) ∨ ∃ τ, V τ ∧ rs τ = τ ∧ rz = nI τ ∧ rz' = nI (φ τ)) ∧
      (∀ {xmN xmL xmD xmT xnc xlc xbc xvd xel xkd xke xqd xst xat xpc xdp xtp : Int32} {xL xbt xbf xR xQ xS xt xv : Nat → Int32} (post : Int32 → SX → Prop), wX_fitsCode_111 post (nI c) (nI n) (nI sc) (nI sn) rz xmN xmL xmD xmT xnc xlc xbc xvd xel xkd xke xqd xst xat xpc xdp xtp xK xP xL xbt xbf xR (upd xB 1 (nI (3 * s1))) xQ xS xt xv → wX_fitsCode_93 post (if hv % 4 = 1 then 1 else 0) (nI c) (nI n) (nI sc) (nI sn) (nI (3 * s1)) 1 xmN xmL xmD xmT xnc xlc xbc xvd xel xkd xke xqd xst xat xpc xdp xtp xK xP xL xbt xbf xR xB xQ xS xt xv) ∧
      (∀ {ync ytop ybc ylc yvd yel yst yat ypc ydp ytp ykd yke ymN ymL ymD ymT : Int32} {yW yL ybt ybf yt yv : Nat → Int32} (post : Int32 → SY → Prop), wY_suitsCode_71 post (nI c) (nI n) (nI sc) (nI (φ (3 * sn + 1))) rz' ync ytop ybc ylc yvd yel yst yat ypc ydp ytp ykd yke ymN ymL ymD ymT yT yI yW yL ybt ybf yt yv → wpY_suitsCode post (ync, ytop, ybc, ylc, yvd, yel, yst, yat, ypc, ydp, ytp, ykd, yke, ymN, ymL, ymD, ymT, yT, yI, yW, yL, ybt, ybf, yt, yv) (nI c) (nI (hv % 4)) (nI n)) := by
  have n24 := A.2.1
  have ypre : ∀ {ync ytop ybc ylc yvd yel yst yat ypc ydp ytp ykd yke ymN ymL ymD ymT : Int32} {yW yL ybt ybf yt yv : Nat → Int32} (post : Int32 → SY → Prop), ((nI (hv % 4) = 1 → wpY_cells (fun r_100 => (wpY_drop (fun r_126 => (((r_126 = 1 → (wpY_drop (fun r_154 => (wY_suitsCode_71 post (nI c) (nI n) (nI sc) (nI (φ (3 * sn + 1))) r_154 ync ytop ybc ylc yvd yel yst yat ypc ydp ytp ykd yke ymN ymL ymD ymT yT yI yW yL ybt ybf yt yv)) (ync, ytop, ybc, ylc, yvd, yel, yst, yat, ypc, ydp, ytp, ykd, yke, ymN, ymL, ymD, ymT, yT, yI, yW, yL, ybt, ybf, yt, yv) (nI (φ (3 * sn + 1))) r_100)) ∧ (¬ r_126 = 1 → (wY_suitsCode_71 post (nI c) (nI n) (nI sc) (nI (φ (3 * sn + 1))) r_126 ync ytop ybc ylc yvd yel yst yat ypc ydp ytp ykd yke ymN ymL ymD ymT yT yI yW yL ybt ybf yt yv))))) (ync, ytop, ybc, ylc, yvd, yel, yst, yat, ypc, ydp, ytp, ykd, yke, ymN, ymL, ymD, ymT, yT, yI, yW, yL, ybt, ybf, yt, yv) (nI sc) r_100)) (ync, ytop, ybc, ylc, yvd, yel, yst, yat, ypc, ydp, ytp, ykd, yke, ymN, ymL, ymD, ymT, yT, yI, yW, yL, ybt, ybf, yt, yv) (nI sc)) ∧ (¬ nI (hv % 4) = 1 → wY_suitsCode_78 post (nI c) (nI n) (nI sc) (nI (φ (3 * sn + 1))) 1 ync ytop ybc ylc yvd yel yst yat ypc ydp ytp ykd yke ymN ymL ymD ymT yT yI yW yL ybt ybf yt yv)) →
      wpY_suitsCode post (ync, ytop, ybc, ylc, yvd, yel, yst, yat, ypc, ydp, ytp, ykd, yke, ymN, ymL, ymD, ymT, yT, yI, yW, yL, ybt, ybf, yt, yv) (nI c) (nI (hv % 4)) (nI n) := by
    intro ync ytop ybc ylc yvd yel yst yat ypc ydp ytp ykd yke ymN ymL ymD ymT yW yL ybt ybf yt yv post h
    unfold wpY_suitsCode
    refine ⟨by rw [ta_5, ta_p4]; exact ta_vi (by omega), ?_⟩
    rw [ta_5, ta_p4, nI_clamp (by omega), pc, ta_5, ta_p4, nI_clamp (by omega), pn, nI_clamp (by omega), iv]
    exact nm_e ⟨ta_vi (by omega), ta_vi (by omega), nm_e h⟩
  by_cases hm : hv % 4 = 1
  · rw [if_pos hm]
    have D6 := (H sc scc skc).1
    by_cases h0 : E sc = 0
    · refine ⟨nI 0, nI 0, Or.inr ⟨0, v0, r0, rfl, by rw [f0]⟩, fun post hp => ?_, fun post hp => ?_⟩
      · unfold wX_fitsCode_93
        refine ⟨ta_vi (n := 1) (by decide), nm_e (br_f (by decide) ?_)⟩
        unfold wpX_instance
        refine ta_xend A X H scc skc ?_
        rw [h0]
        exact br_t rfl hp
      · refine ypre post (br_t (congrArg nI hm) ?_)
        refine ta_ycells A Y H scc skc ?_
        refine ta_ydrop A Y H scc skc ?_
        rw [h0]
        exact br_f (by decide) hp
    · have h1 : E sc = 1 := by omega
      obtain ⟨r, r', R, GX, GY⟩ := ta_inst30 EQ (D sc) 0 (rs (3 * sn + 1)) (by omega) (EQ.2.1 _ vs).2.1 (ta_rsrs EQ vs)
      rw [(EQ.2.1 _ vs).2.2.1] at GY
      rw [Nat.zero_add] at GX GY
      refine ⟨r, r', R, fun post hp => ?_, fun post hp => ?_⟩
      · unfold wX_fitsCode_93
        refine ⟨ta_vi (n := 1) (by decide), nm_e (br_f (by decide) ?_)⟩
        unfold wpX_instance
        refine ta_xend A X H scc skc ?_
        rw [h1]
        refine br_f (by decide) ?_
        refine ta_xcells A X H scc skc ?_
        rw [ta_3, nI_1]
        refine ta_xres EQ vs ?_
        exact ⟨_, GX _ hp⟩
      · refine ypre post (br_t (congrArg nI hm) ?_)
        refine ta_ycells A Y H scc skc ?_
        refine ta_ydrop A Y H scc skc ?_
        rw [h1]
        exact br_t rfl ⟨_, GY _ hp⟩
  · rw [if_neg hm]
    refine ⟨nI 3, nI 1, Or.inr ⟨3, v3, r3, rfl, by rw [f3]⟩, fun post hp => ?_, fun post hp => ?_⟩
    · unfold wX_fitsCode_93
      exact ⟨ta_vi (n := 1) (by decide), nm_e (br_t rfl hp)⟩
    · refine ypre post (br_f (fun z => hm ((nI_eq (by omega) (by omega)).mp (z.trans ta_l1))) ?_)
      exact hp.1 (by decide)
end
end
section
/-! fitsWord with suits: the whole -/
section
variable {xmN xmL xmD xmT xnc xlc xbc xvd xel xkd xke xqd xst xat xpc xdp xtp : Int32} {xK xP xL xbt xbf xR xB xQ xS xt xv : Nat → Int32}
variable {ync ytop ybc ylc yvd yel yst yat ypc ydp ytp ykd yke ymN ymL ymD ymT : Int32} {yT yI yW yL ybt ybf yt yv : Nat → Int32}
variable {K : Nat → Nat} {N : Nat → Nat → Option Nat} {D E : Nat → Nat} {nc Lk top : Nat} {ρ : Nat → Nat}
def ta_E01 (K E : Nat → Nat) (nc : Nat) : Prop := ∀ i, i < nc → ta_SK K i → E i = 0 ∨ E i = 1
theorem ta_RF_keep {g : Nat → Nat} {yT' : Nat → Int32} {i : Nat} (R : ta_RF K N g yT i) (h : g i < top) (hT : ∀ j, j < 5 * top → yT' j = yT j) : ta_RF K N g yT' i :=
  ⟨by rw [hT _ (by omega)]; exact R.1, fun j hj => by rw [hT _ (by omega)]; exact R.2 j hj⟩
theorem ta_fit5 (A : ta_PA K N nc) (H : ta_DE K N D E nc) (H1 : ta_E01 K E nc) (X : ta_XA K N nc xK xP) (Y : ta_YA K N nc yT) (F : ta_FB K N nc Lk xK xP yT top ρ) (h80 : top + 48 ≤ 128) {hv nd s : Nat} (gh : ta_GW K nc hv) (gn : ta_GW K nc nd) (vs : ta_vn nc Lk s)
    (hk : K (hv / 4) = K (nd / 4)) (k5 : K (nd / 4) = 5) (q : Int32) : ta_Fit K nc top ρ xK xP xB xQ yT yI q hv nd s := by
  have n3 := A.1
  have n24 := A.2.1
  have h1 := gh.1
  have h2 := gn.1
  have s32 := ta_vn32 n24 F.1 vs
  have nar : ∀ b : Int32, b = nI 0 ∨ b = nI 1 → narrow .boolean (.int b) = .int b := by intro b hb; rcases hb with h | h <;> rw [h] <;> rfl
  by_cases hb : nd % 4 = 1 ∧ hv % 4 ≠ 1
  · refine ⟨nI 0, q, xB, xQ, yT, yI, Or.inl rfl, fun _ _ => rfl, fun post hp => ?_, fun post hp => ?_⟩
    · refine ta_xfw A X gh gn (fun z => absurd hk z) (fun _ _ => ?_) (fun _ z => by omega) (fun _ z => absurd k5 z)
      exact ta_xfc0 (by omega) (by omega) hb ⟨rfl, hp⟩
    · exact ta_ysu0 A Y gh gn (Or.inr ⟨k5, hb⟩) hp
  · obtain ⟨s1, es1⟩ : ∃ s1, s1 = (if nd % 4 = 1 then 1 else s) := ⟨_, rfl⟩
    have vs1 : ta_vn nc Lk s1 := by
      rw [es1]
      by_cases c : nd % 4 = 1
      · rw [if_pos c]; exact Or.inl (by omega)
      · rw [if_neg c]; exact vs
    have eρ : ρ s1 = (if K (nd / 4) = 5 ∧ nd % 4 = 1 then 1 else ρ s) := by
      rw [es1]
      by_cases c : nd % 4 = 1
      · rw [if_pos c, if_pos ⟨k5, c⟩]; exact F.2.2.2.1 1 (by omega)
      · rw [if_neg c, if_neg (fun z => c z.2)]
    obtain ⟨top1, yT1, yI1, g1, t1, t2, C1, T1, R1, I1, GY1⟩ := ta_replace A Y F.2.2.1 F.2.1 (o := 0) (s := ρ s1) (Or.inl rfl) (by omega) (F.2.2.2.2 s1 vs1).2.1 yI
    have F1 := ta_FB_keep A.2.2.2.2.2.1 F t1 T1 C1
    have Y1 := ta_YA_keep Y F.2.1 T1
    have EQ1 := ta_mkEQ (xB := upd xB 1 (nI (3 * s1))) (g2 := g1) (z := 0) (e2 := False) A F1 (by omega) vs1 pk_us (fun i hi => ⟨(R1 i hi).2.1, (R1 i hi).2.2.2⟩) ((R1 1 (by omega)).2.2.1 rfl) (fun z => z.elim)
    obtain ⟨sc, ec, lc, skc, xc, yc, xcr, gcr, ycr⟩ := ta_code A X Y1 h1 (hk.trans k5)
    obtain ⟨sn, en, ln, skn, xn, yn, xnr, gnr, ynr⟩ := ta_code A X Y1 h2 k5
    have p0 : ta_ph ρ g1 g1 0 = 0 := by rw [ta_ph0 (by omega)]; exact F.2.2.2.1 0 (by omega)
    have p3 : ta_ph ρ g1 g1 3 = 1 := by rw [ta_ph0 (by omega)]; exact F.2.2.2.1 1 (by omega)
    have psn : ta_ph ρ g1 g1 (3 * sn + 1) = g1 sn := by rw [ta_ph1 (by omega), show (3 * sn + 1) / 3 = sn by omega]
    have iv : yI1 sn = nI (ta_ph ρ g1 g1 (3 * sn + 1)) := by
      have := (R1 sn (by omega)).1
      rw [Nat.zero_add] at this
      rw [psn]; exact this
    obtain ⟨rz, rz', Z, ZX, ZY⟩ := ta_zst A H X Y1 EQ1 (hv := hv) h1 h2 (sc := sc) (by omega) skc (sn := sn) (by omega) yc yn iv (Or.inl ⟨by omega, Or.inl (by omega)⟩) (Or.inl ⟨by omega, Or.inl (by omega)⟩)
      (Or.inr (Or.inl ⟨by omega, by omega⟩)) (by unfold ta_rs; rw [if_neg (by omega), if_neg (by omega)]) (by unfold ta_rs; rw [if_neg (by omega), if_neg (by omega)]) p0 p3 (H1 sc (by omega) skc)
    -- X and Y up to the tail
    have xpre : ∀ {xmN xmL xmD xmT xnc xlc xbc xvd xel xkd xke xst xat xpc xdp xtp : Int32} {xL xbt xbf xR xt xv : Nat → Int32} (post : Int32 → SX → Prop), wX_fitsCode_111 (fun r u => narrow .boolean (.int r) = .int r ∧ post r u) (nI (hv / 4)) (nI (nd / 4)) (nI sc) (nI sn) rz xmN xmL xmD xmT xnc xlc xbc xvd xel xkd xke q xst xat xpc xdp xtp xK xP xL xbt xbf xR (upd xB 1 (nI (3 * s1))) xQ (fun _ => 0) xt xv →
        wpX_fitsWord post (xmN, xmL, xmD, xmT, xnc, xlc, xbc, xvd, xel, xkd, xke, q, xst, xat, xpc, xdp, xtp, xK, xP, xL, xbt, xbf, xR, xB, xQ, fun _ => 0, xt, xv) (nI hv) (nI nd) (nI s) := by
      intro xmN xmL xmD xmT xnc xlc xbc xvd xel xkd xke xst xat xpc xdp xtp xL xbt xbf xR xt xv post h
      refine ta_xfw A X gh gn (fun z => absurd hk z) (fun _ _ => ?_) (fun _ z => by omega) (fun _ z => absurd k5 z)
      refine ta_xfc rfl rfl (by omega) (by omega) s32 xc xn hb ?_
      rw [← es1]
      exact ZX _ h
    have ypre : ∀ {ybc ylc yvd yel yst yat ypc ydp ytp ykd yke ymN ymL ymD ymT : Int32} {yW yL ybt ybf yt yv : Nat → Int32} (post : Int32 → SY → Prop), wY_suitsCode_71 (fun r u => match u with | (ync, ytop, ybc, ylc, yvd, yel, yst, yat, ypc, ydp, ytp, ykd, yke, ymN, ymL, ymD, ymT, yT, yI, yW, yL, ybt, ybf, yt, yv) => narrow .boolean (.int r) = .int r ∧ post r (ync, nI top, ybc, ylc, yvd, yel, yst, yat, ypc, ydp, ytp, ykd, yke, ymN, ymL, ymD, ymT, yT, yI, yW, yL, ybt, ybf, yt, yv)) (nI (hv / 4)) (nI (nd / 4)) (nI sc) (nI (ta_ph ρ g1 g1 (3 * sn + 1))) rz' (nI nc) (nI top1) ybc ylc yvd yel yst yat ypc ydp ytp ykd yke ymN ymL ymD ymT yT1 yI1 yW yL ybt ybf yt yv →
        wpY_suits post (nI nc, nI top, ybc, ylc, yvd, yel, yst, yat, ypc, ydp, ytp, ykd, yke, ymN, ymL, ymD, ymT, yT, yI, yW, yL, ybt, ybf, yt, yv) (nI hv) (nI nd) (nI (ρ s)) := by
      intro ybc ylc yvd yel yst yat ypc ydp ytp ykd yke ymN ymL ymD ymT yW yL ybt ybf yt yv post h
      refine ta_ysu1 A Y gh gn hk (fun z => hb z.2) ?_
      rw [← eρ, k5]
      unfold wY_suits_87
      refine GY1 _ ?_
      refine br_f (by decide) (br_f (by decide) ?_)
      unfold wY_suits_128 wY_suits_129
      refine br_t rfl ?_
      rw [show nI hv &&& 3 = nI (hv % 4) from ta_and3 (by omega)]
      exact ZY _ h
    rcases Z with ⟨z1, z2⟩ | ⟨τ, vτ, rτ, z1, z2⟩
    · refine ⟨nI 0, q, upd xB 1 (nI (3 * s1)), xQ, yT1, yI1, Or.inl rfl, T1, fun post hp => xpre post ?_, fun post hp => ypre post ?_⟩
      · rw [z1]; exact br_f (by decide) ⟨rfl, hp⟩
      · rw [z2]; exact br_f (by decide) ⟨rfl, hp⟩
    · have τ96 := (EQ1.2.1 τ vτ).1
      have τr := (EQ1.2.1 τ vτ).2.2.2
      rw [rτ] at τr
      have τ2 : τ % 3 ≠ 2 := by
        rcases vτ with a | a | a
        · omega
        · omega
        · exact a.2.2.elim
      have pl := ta_phi_lt EQ1 vτ
      obtain ⟨top2, yT2, yI2, g2, u1, u2, C2, T2, R2, I2, GY2⟩ := ta_replace A Y1 C1 (by have := F.2.1; omega) (o := 24) (s := ta_ph ρ g1 g1 τ) (Or.inr rfl) (by omega) pl yI1
      have F2 := ta_FB_keep A.2.2.2.2.2.1 F1 u1 T2 C2
      have Y2 := ta_YA_keep (top := top1) Y1 (by have := F.2.1; omega) T2
      have EQ2 := ta_mkEQ (xB := upd (upd xB 1 (nI (3 * s1))) 2 (nI τ)) (g1 := g1) (g2 := g2) (z := τ) (e2 := True) A F2 (by omega) vs1 (by rw [pk_un (by omega), pk_us])
        (fun i hi => ⟨by have := (R1 i hi).2.1; omega, fun h => ta_RF_keep ((R1 i hi).2.2.2 h) (R1 i hi).2.1 T2⟩) ((R1 1 (by omega)).2.2.1 rfl)
        (fun _ => ⟨pk_us, vτ, τr, by rw [(R2 1 (by omega)).2.2.1 rfl]; exact ta_ph_ne2 τ2, fun i hi => ⟨(R2 i hi).2.1, (R2 i hi).2.2.2⟩⟩)
      have B1 := ta_WB1 (Lk := Lk) (ρ := ρ) (g1 := g1) (g2 := g2) (e2 := True) (s := s1) (z := τ) (yI := yI2) A X Y2 F.2.2.2.1 (fun i hi => by rw [I2 _ (Or.inl (by omega))]; exact (R1 i hi).1)
      have B2 := ta_WB2 (Lk := Lk) (ρ := ρ) (g1 := g1) (g2 := g2) (e2 := True) (s := s1) (z := τ) (yI := yI2) A X Y2 F.2.2.2.1 trivial (fun i hi => (R2 i hi).1)
      obtain ⟨_, _, _, _, _, yc2, _, _, ycr2⟩ := ta_code A X Y2 h1 (hk.trans k5)
      obtain ⟨_, _, _, _, _, yn2, _, _, ynr2⟩ := ta_code A X Y2 h2 k5
      have va : ta_V nc Lk True (3 * sc + 2) := Or.inr (Or.inr ⟨by omega, by omega, trivial⟩)
      have vb : ta_V nc Lk True (3 * sn + 1) := Or.inr (Or.inl ⟨by omega, by omega⟩)
      have pa : ta_ph ρ g1 g2 (3 * sc + 2) = g2 sc := by rw [ta_ph2 (by omega), show (3 * sc + 2) / 3 = sc by omega]
      have pb : ta_ph ρ g1 g2 (3 * sn + 1) = g1 sn := by rw [ta_ph1 (by omega), show (3 * sn + 1) / 3 = sn by omega]
      obtain ⟨q1, xQ1, GE⟩ := ta_equal EQ2 va vb xQ
      rw [pa, pb] at GE
      have T3 : ∀ j, j < 5 * top → yT2 j = yT j := fun j hj => by rw [T2 j (by omega)]; exact T1 j hj
      have l1 := (R1 sn (by omega)).2.1
      have l2 := (R2 sc (by omega)).2.1
      -- X with the second binding; Y with the second map
      have x2 : ∀ {xmN xmL xmD xmT xnc xlc xbc xvd xel xkd xke xst xat xpc xdp xtp : Int32} {xL xbt xbf xR xt xv : Nat → Int32} (post : Int32 → SX → Prop), (g2 sc = g1 sn → wpX_demandsAgree (fun r u => (r = 0 → (narrow .boolean (.int 0) = .int 0 ∧ post 0 u)) ∧ (¬ r = 0 → (narrow .boolean (.int 1) = .int 1 ∧ post 1 u))) (xmN, xmL, xmD, xmT, xnc, xlc, xbc, xvd, xel, xkd, xke, q1, xst, xat, xpc, xdp, xtp, xK, xP, xL, xbt, xbf, xR, upd (upd xB 1 (nI (3 * s1))) 2 (nI τ), xQ1, fun _ => 0, xt, xv) (nI (hv / 4)) (nI (nd / 4))) →
          (¬ g2 sc = g1 sn → post 0 (xmN, xmL, xmD, xmT, xnc, xlc, xbc, xvd, xel, xkd, xke, q1, xst, xat, xpc, xdp, xtp, xK, xP, xL, xbt, xbf, xR, upd (upd xB 1 (nI (3 * s1))) 2 (nI τ), xQ1, fun _ => 0, xt, xv)) → wpX_fitsWord post (xmN, xmL, xmD, xmT, xnc, xlc, xbc, xvd, xel, xkd, xke, q, xst, xat, xpc, xdp, xtp, xK, xP, xL, xbt, xbf, xR, xB, xQ, fun _ => 0, xt, xv) (nI hv) (nI nd) (nI s) := by
        intro xmN xmL xmD xmT xnc xlc xbc xvd xel xkd xke xst xat xpc xdp xtp xL xbt xbf xR xt xv post ha hb
        refine xpre post ?_
        rw [z1]
        unfold wX_fitsCode_111
        refine br_t (nI_pos' (by omega)) (nm_e ?_)
        rw [ta_3, ta_p2, ta_3, nI_1]
        refine GE _ ?_
        by_cases he : g2 sc = g1 sn
        · rw [if_pos he]
          exact br_f (by decide) (ha he)
        · rw [if_neg he]
          exact br_t rfl ⟨rfl, hb he⟩
      have y2 : ∀ {ybc ylc yvd yel yst yat ypc ydp ytp ykd yke ymN ymL ymD ymT : Int32} {yW yL ybt ybf yt yv : Nat → Int32} (post : Int32 → SY → Prop), (g2 sc = g1 sn → ∃ n106, wY_suitsCode_106 (fun r u => match u with | (ync, ytop, ybc, ylc, yvd, yel, yst, yat, ypc, ydp, ytp, ykd, yke, ymN, ymL, ymD, ymT, yT, yI, yW, yL, ybt, ybf, yt, yv) => narrow .boolean (.int r) = .int r ∧ post r (ync, nI top, ybc, ylc, yvd, yel, yst, yat, ypc, ydp, ytp, ykd, yke, ymN, ymL, ymD, ymT, yT, yI, yW, yL, ybt, ybf, yt, yv)) (nI (hv / 4)) (nI (nd / 4)) (nI nc) (nI top2) ybc ylc yvd yel yst yat ypc ydp ytp ykd yke ymN ymL ymD ymT yT2 yI2 yW yL ybt ybf yt yv n106 1) →
          (¬ g2 sc = g1 sn → post 0 (nI nc, nI top, ybc, ylc, yvd, yel, yst, yat, ypc, ydp, ytp, ykd, yke, ymN, ymL, ymD, ymT, yT2, yI2, yW, yL, ybt, ybf, yt, yv)) → wpY_suits post (nI nc, nI top, ybc, ylc, yvd, yel, yst, yat, ypc, ydp, ytp, ykd, yke, ymN, ymL, ymD, ymT, yT, yI, yW, yL, ybt, ybf, yt, yv) (nI hv) (nI nd) (nI (ρ s)) := by
        intro ybc ylc yvd yel yst yat ypc ydp ytp ykd yke ymN ymL ymD ymT yW yL ybt ybf yt yv post ha hb
        refine ypre post ?_
        rw [z2, psn]
        unfold wY_suitsCode_71
        refine br_t (nI_pos' (by omega)) ?_
        unfold wY_suitsCode_78
        refine GY2 _ ?_
        dsimp only
        rw [ta_l24, nI_add, nI_clamp (by omega), (R2 sc (by omega)).1]
        exact ⟨ta_vi (by omega), pk_eq (g2 sc) (g1 sn) ha (fun z => ⟨rfl, hb z⟩)⟩
      by_cases he : g2 sc = g1 sn
      · obtain ⟨rr, q2, xQ2, RR, GX3, GY3⟩ := ta_dems EQ2 B2 B1 (by omega) (by omega) gcr gnr ycr2 ynr2 xcr xnr 3 0 q1 xQ1 rfl
        refine ⟨rr, q2, upd (upd xB 1 (nI (3 * s1))) 2 (nI τ), xQ2, yT2, yI2, RR, T3, fun post hp => x2 post (fun _ => ?_) (fun z => absurd he z), fun post hp => y2 post (fun _ => ?_) (fun z => absurd he z)⟩
        · refine ⟨_, GX3 _ ?_⟩
          rcases RR with r0 | r1
          · rw [r0] at hp ⊢; exact br_t rfl ⟨rfl, hp⟩
          · rw [r1] at hp ⊢; exact br_f (by decide) ⟨rfl, hp⟩
        · exact ⟨_, GY3 _ ⟨nar _ RR, hp⟩⟩
      · refine ⟨nI 0, q1, upd (upd xB 1 (nI (3 * s1))) 2 (nI τ), xQ1, yT2, yI2, Or.inl rfl, T3, fun post hp => x2 post (fun z => absurd z he) (fun _ => hp), fun post hp => y2 post (fun z => absurd z he) (fun _ => hp)⟩
theorem ta_fit (A : ta_PA K N nc) (H : ta_DE K N D E nc) (H1 : ta_E01 K E nc) (X : ta_XA K N nc xK xP) (Y : ta_YA K N nc yT) (F : ta_FB K N nc Lk xK xP yT top ρ) (h80 : top + 48 ≤ 128) {hv nd s : Nat} (gh : ta_GW K nc hv) (gn : ta_GW K nc nd) (vs : ta_vn nc Lk s)
    (q : Int32) (xB xQ yI : Nat → Int32) : ta_Fit K nc top ρ xK xP xB xQ yT yI q hv nd s := by
  by_cases hk : K (hv / 4) = K (nd / 4)
  · rcases gn.2 with k4 | k5 | k2
    · exact ta_fit4 A X Y F h80 gh gn vs hk k4 q
    · exact ta_fit5 A H H1 X Y F h80 gh gn vs hk k5.1 q
    · exact ta_fit2 A X Y F h80 gh gn vs hk k2.1 q
  · exact ta_fit0 A X Y gh gn hk q
end
end
section
/-! good words, stacks; the arena grows -/
section
variable {xmN xmL xmD xmT xnc xlc xbc xvd xel xkd xke xqd xst xat xpc xdp xtp : Int32} {xK xP xL xbt xbf xR xB xQ xS xt xv : Nat → Int32}
variable {ync ytop ybc ylc yvd yel yst yat ypc ydp ytp ykd yke ymN ymL ymD ymT : Int32} {yT yI yW yL ybt ybf yt yv : Nat → Int32}
variable {K : Nat → Nat} {N : Nat → Nat → Option Nat} {D E : Nat → Nat} {nc : Nat}
def ta_GP (K : Nat → Nat) (nc : Nat) (p : Int32) : Prop := ∃ w, p = nI w ∧ ta_GW K nc w
def ta_NP (K : Nat → Nat) (nc : Nat) (p : Int32) (k : Nat) : Prop := ∃ t, p = nI t ∧ t < nc ∧ K t = k
def ta_SP (K : Nat → Nat) (nc : Nat) (p : Int32) : Prop := ∃ t, p = nI t ∧ t < nc ∧ ta_SK K t
theorem ta_GPn (n24 : nc ≤ 24) {w : Nat} (hw : w < 2 ^ 31) : ta_GP K nc (nI w) ↔ ta_GW K nc w := by
  refine ⟨fun ⟨w', e, g⟩ => ?_, fun g => ⟨w, rfl, g⟩⟩
  have := g.1
  rw [nI_eq hw (by omega)] at e
  rw [e]; exact g
theorem ta_NPn (n24 : nc ≤ 24) {t k : Nat} (hw : t < 2 ^ 31) : ta_NP K nc (nI t) k ↔ t < nc ∧ K t = k := by
  refine ⟨fun ⟨w', e, g⟩ => ?_, fun g => ⟨t, rfl, g⟩⟩
  have := g.1
  rw [nI_eq hw (by omega)] at e
  rw [e]; exact g
theorem ta_SPn (n24 : nc ≤ 24) {t : Nat} (hw : t < 2 ^ 31) : ta_SP K nc (nI t) ↔ t < nc ∧ ta_SK K t := by
  refine ⟨fun ⟨w', e, g⟩ => ?_, fun g => ⟨t, rfl, g⟩⟩
  have := g.1
  rw [nI_eq hw (by omega)] at e
  rw [e]; exact g
theorem ta_neg {p : Int32} (h : p < 0) {w : Nat} (hw : w < 2 ^ 31) : p ≠ nI w := fun e => nI_pos hw (by rw [← e]; exact h)
theorem ta_xgood (A : ta_PA K N nc) (X : ta_XA K N nc xK xP) {p : Int32} {post : Int32 → Prop} (h1 : ta_GP K nc p → post 1) (h0 : ¬ ta_GP K nc p → post 0) : wpX_goodWord post (xmN, xmL, xmD, xmT, nI nc, xlc, xbc, xvd, xel, xkd, xke, xqd, xst, xat, xpc, xdp, xtp, xK, xP, xL, xbt, xbf, xR, xB, xQ, xS, xt, xv) p := by
  have n24 := A.2.1
  unfold wpX_goodWord
  refine br_c (fun hp => h0 (fun ⟨w, e, g⟩ => ta_neg hp (by have := g.1; omega) e)) (fun hp => ⟨by decide, ?_⟩)
  obtain ⟨w, hw, rfl⟩ := nI_of hp
  rw [ta_GPn n24 hw] at h1 h0
  rw [ta_d4 hw]
  refine pk_lt (w / 4) nc (fun hl => ⟨by decide, ta_vi (by omega), ?_⟩) (fun hl => h0 (fun g => by have := g.1; omega))
  rw [nI_clamp (by omega), (X _ hl).1, ta_a3 hw]
  have k5 := A.2.2.2.2.2.1 (w / 4)
  have e44 : K (w / 4) ≠ 4 → ¬ (K (w / 4) = 5 ∧ w % 4 ≤ 1) → wX_goodWord_44 post (nI (K (w / 4))) (nI (w % 4)) xmN xmL xmD xmT (nI nc) xlc xbc xvd xel xkd xke xqd xst xat xpc xdp xtp xK xP xL xbt xbf xR xB xQ xS xt xv := by
    intro c4 c5
    unfold wX_goodWord_44
    refine pk_eq (K (w / 4)) 2 (fun c2 => pk_eq (w % 4) 0 (fun c0 => h1 ⟨hl, Or.inr (Or.inr ⟨c2, c0⟩)⟩) (fun c0 => h0 ?_)) (fun c2 => h0 ?_)
    · rintro ⟨_, g | g | g⟩
      · exact c4 g
      · exact c5 g
      · exact c0 g.2
    · rintro ⟨_, g | g | g⟩
      · exact c4 g
      · exact c5 g
      · exact c2 g.1
  refine nm_e (nm_e (pk_eq (K (w / 4)) 4 (fun c4 => h1 ⟨hl, Or.inl c4⟩) (fun c4 => pk_eq (K (w / 4)) 5 (fun c5 => pk_le (w % 4) 1 (fun c1 => h1 ⟨hl, Or.inr (Or.inl ⟨c5, c1⟩)⟩) (fun c1 => e44 c4 (fun z => by omega))) (fun c5 => e44 c4 (fun z => c5 z.1)))))
theorem ta_ygood (A : ta_PA K N nc) (Y : ta_YA K N nc yT) {p : Int32} {post : Int32 → Prop} (h1 : ta_GP K nc p → post 1) (h0 : ¬ ta_GP K nc p → post 0) : wpY_good post (nI nc, ytop, ybc, ylc, yvd, yel, yst, yat, ypc, ydp, ytp, ykd, yke, ymN, ymL, ymD, ymT, yT, yI, yW, yL, ybt, ybf, yt, yv) p := by
  have n24 := A.2.1
  unfold wpY_good
  refine br_c (fun hp => h0 (fun ⟨w, e, g⟩ => ta_neg hp (by have := g.1; omega) e)) (fun hp => ?_)
  obtain ⟨w, hw, rfl⟩ := nI_of hp
  rw [ta_GPn n24 hw] at h1 h0
  rw [ta_s2 hw]
  refine pk_lt (w / 4) nc (fun hl => ?_) (fun hl => h0 (fun g => by have := g.1; omega))
  rw [ta_5, nI_clamp (by omega), (Y _ hl).1, ta_a3 hw]
  have k5 := A.2.2.2.2.2.1 (w / 4)
  have e40 : ¬ (K (w / 4) = 2 ∧ w % 4 = 0) → wY_good_40 post (nI (K (w / 4))) (nI (w % 4)) (nI nc) ytop ybc ylc yvd yel yst yat ypc ydp ytp ykd yke ymN ymL ymD ymT yT yI yW yL ybt ybf yt yv := by
    intro c2
    unfold wY_good_40
    refine pk_eq (K (w / 4)) 4 (fun c4 => h1 ⟨hl, Or.inl c4⟩) (fun c4 => pk_eq (K (w / 4)) 5 (fun c5 => pk_lt 1 (w % 4) (fun c1 => h0 ?_) (fun c1 => h1 ⟨hl, Or.inr (Or.inl ⟨c5, c1⟩)⟩)) (fun c5 => h0 ?_))
    · rintro ⟨_, g | g | g⟩
      · exact c4 g
      · omega
      · exact c2 g
    · rintro ⟨_, g | g | g⟩
      · exact c4 g
      · exact c5 g.1
      · exact c2 g
  refine ⟨ta_vi (by omega), nm_e (nm_e (pk_eq (K (w / 4)) 2 (fun c2 => pk_eq (w % 4) 0 (fun c0 => h1 ⟨hl, Or.inr (Or.inr ⟨c2, c0⟩)⟩) (fun c0 => e40 (fun z => c0 z.2))) (fun c2 => e40 (fun z => c2 z.1))))⟩
theorem ta_xisNode (A : ta_PA K N nc) (X : ta_XA K N nc xK xP) {p : Int32} {k : Nat} (hk : k ≤ 5) {post : Int32 → Prop} (h1 : ta_NP K nc p k → post 1) (h0 : ¬ ta_NP K nc p k → post 0) : wpX_isNode post (xmN, xmL, xmD, xmT, nI nc, xlc, xbc, xvd, xel, xkd, xke, xqd, xst, xat, xpc, xdp, xtp, xK, xP, xL, xbt, xbf, xR, xB, xQ, xS, xt, xv) p (nI k) := by
  have n24 := A.2.1
  unfold wpX_isNode
  refine br_c (fun hp => h0 (fun ⟨w, e, g⟩ => ta_neg hp (by have := g.1; omega) e)) (fun hp => ?_)
  obtain ⟨t, ht, rfl⟩ := nI_of hp
  rw [ta_NPn n24 ht] at h1 h0
  refine pk_le nc t (fun hl => h0 (fun g => by omega)) (fun hl => ⟨ta_vi (by omega), ?_⟩)
  rw [nI_clamp ht, (X _ hl).1]
  have k5 := A.2.2.2.2.2.1 t
  exact pk_eq (K t) k (fun c => h1 ⟨hl, c⟩) (fun c => h0 (fun g => c g.2))
theorem ta_K01 (A : ta_PA K N nc) {t : Nat} (ht : t < nc) : (K t = 0 ↔ t = 0) ∧ (K t = 1 ↔ t = 1) := by
  rcases Nat.lt_or_ge t 3 with z | z
  · rcases Nat.lt_or_ge t 1 with z0 | z0
    · have : t = 0 := by omega
      subst this
      rw [A.2.2.1]; omega
    · rcases Nat.lt_or_ge t 2 with z1 | z1
      · have : t = 1 := by omega
        subst this
        rw [A.2.2.2.1]; omega
      · have : t = 2 := by omega
        subst this
        rw [A.2.2.2.2.1]; omega
  · have := A.2.2.2.2.2.2.1 t z ht
    omega
theorem ta_xisStack (A : ta_PA K N nc) (X : ta_XA K N nc xK xP) {p : Int32} {post : Int32 → Prop} (h1 : ta_SP K nc p → post 1) (h0 : ¬ ta_SP K nc p → post 0) : wpX_isStack post (xmN, xmL, xmD, xmT, nI nc, xlc, xbc, xvd, xel, xkd, xke, xqd, xst, xat, xpc, xdp, xtp, xK, xP, xL, xbt, xbf, xR, xB, xQ, xS, xt, xv) p := by
  have n3 := A.1
  have n24 := A.2.1
  unfold wpX_isStack
  refine br_c (fun hp => h1 ⟨0, hp, by omega, Or.inl A.2.2.1⟩) (fun hp => br_c (fun hq => h1 ⟨1, hq, by omega, Or.inr (Or.inl A.2.2.2.1)⟩) (fun hq => ?_))
  refine ta_xisNode (k := 3) A X (by omega) (fun ⟨t, e, lt, c⟩ => br_f (by decide) (h1 ⟨t, e, lt, Or.inr (Or.inr c)⟩)) (fun hn => br_t rfl (h0 ?_))
  rintro ⟨t, e, lt, c | c | c⟩
  · rw [(ta_K01 A lt).1] at c
    exact hp (by rw [e, c]; rfl)
  · rw [(ta_K01 A lt).2] at c
    exact hq (by rw [e, c]; rfl)
  · exact hn ⟨t, e, lt, c⟩
theorem ta_yisStack (A : ta_PA K N nc) (Y : ta_YA K N nc yT) {p : Int32} {post : Int32 → Prop} (h1 : ta_SP K nc p → post 1) (h0 : ¬ ta_SP K nc p → post 0) : wpY_isStack post (nI nc, ytop, ybc, ylc, yvd, yel, yst, yat, ypc, ydp, ytp, ykd, yke, ymN, ymL, ymD, ymT, yT, yI, yW, yL, ybt, ybf, yt, yv) p := by
  have n24 := A.2.1
  unfold wpY_isStack
  refine br_c (fun hp => h0 (fun ⟨w, e, g⟩ => ta_neg hp (by have := g.1; omega) e)) (fun hp => ?_)
  obtain ⟨t, ht, rfl⟩ := nI_of hp
  rw [ta_SPn n24 ht] at h1 h0
  refine pk_le nc t (fun hl => h0 (fun g => by omega)) (fun hl => ?_)
  rw [ta_5, nI_clamp (by omega), (Y _ hl).1]
  have k5 := A.2.2.2.2.2.1 t
  refine ⟨ta_vi (by omega), pk_eq (K t) 0 (fun c => h1 ⟨hl, Or.inl c⟩) (fun c0 => ⟨ta_vi (by omega), pk_eq (K t) 1 (fun c => h1 ⟨hl, Or.inr (Or.inl c)⟩) (fun c1 => ⟨ta_vi (by omega), pk_eq (K t) 3 (fun c => h1 ⟨hl, Or.inr (Or.inr c)⟩) (fun c3 => h0 ?_)⟩)⟩)⟩
  rintro ⟨_, c | c | c⟩
  · exact c0 c
  · exact c1 c
  · exact c3 c
end
end
section
/-! intern with build -/
def ta_sl (a0 a1 a2 a3 : Option Nat) (j : Nat) : Option Nat := if j = 0 then a0 else if j = 1 then a1 else if j = 2 then a2 else if j = 3 then a3 else none
def ta_xa (k : Nat) (a : Option Nat) (j : Nat) : Int32 := if j < ta_pt k then ta_enc a else nI 0
def ta_hitX (xK xP : Nat → Int32) (k p0 p1 p2 p3 : Int32) (i : Nat) : Prop := xK i = k ∧ xP (4 * i) = p0 ∧ xP (4 * i + 1) = p1 ∧ xP (4 * i + 2) = p2 ∧ xP (4 * i + 3) = p3
def ta_xapp (xP : Nat → Int32) (nc : Nat) (p0 p1 p2 p3 : Int32) : Nat → Int32 := upd (upd (upd (upd xP (4 * nc) p0) (4 * nc + 1) p1) (4 * nc + 2) p2) (4 * nc + 3) p3
section
variable {xmN xmL xmD xmT xnc xlc xbc xvd xel xkd xke xqd xst xat xpc xdp xtp : Int32} {xK xP xL xbt xbf xR xB xQ xS xt xv : Nat → Int32}
variable {ync ytop ybc ylc yvd yel yst yat ypc ydp ytp ykd yke ymN ymL ymD ymT : Int32} {yT yI yW yL ybt ybf yt yv : Nat → Int32}
variable {K : Nat → Nat} {N : Nat → Nat → Option Nat} {D E : Nat → Nat} {nc mN : Nat}
theorem ta_pt_le {k : Nat} (h : 3 ≤ k) (h5 : k ≤ 5) : ta_pt k = if k = 5 then 4 else 2 := by unfold ta_pt; rw [if_neg (by omega)]
theorem ta_slot_none (A : ta_PA K N nc) {i j : Nat} (hi : i < nc) (h3 : 3 ≤ K i) (hj : j < 4) (h : ta_pt (K i) ≤ j) : N i j = none := by
  have k5 := A.2.2.2.2.2.1 i
  rw [ta_pt_le h3 k5] at h
  by_cases c : K i = 5
  · rw [if_pos c] at h; omega
  · rw [if_neg c] at h
    exact ((A.2.2.2.2.2.2.2 i hi j hj).2 (by omega)).2 (by omega)
theorem ta_hit1 (A : ta_PA K N nc) (X : ta_XA K N nc xK xP) (Y : ta_YA K N nc yT) {i j : Nat} (hi : i < nc) (h3 : 3 ≤ K i) (hj : j < 4) {a : Option Nat} (ha : ta_pt (K i) ≤ j → a = none) :
    xP (4 * i + j) = ta_xa (K i) a j ↔ yT (5 * i + 1 + j) = ta_enc a := by
  rw [(X i hi).2 j hj, (Y i hi).2 j hj]
  unfold ta_xa
  by_cases c : j < ta_pt (K i)
  · rw [if_pos c, if_pos c]
  · rw [if_neg c, if_neg c, ta_slot_none A hi h3 hj (by omega), ha (by omega)]
    exact ⟨fun _ => rfl, fun _ => rfl⟩
theorem ta_hit_iff (A : ta_PA K N nc) (X : ta_XA K N nc xK xP) (Y : ta_YA K N nc yT) {k : Nat} (h3 : 3 ≤ k) (h5 : k ≤ 5) {a0 a1 a2 a3 : Option Nat} (hn : ∀ j, j < 4 → ta_pt k ≤ j → ta_sl a0 a1 a2 a3 j = none) {i : Nat} (hi : i < nc) :
    ta_hitX xK xP (nI k) (ta_xa k a0 0) (ta_xa k a1 1) (ta_xa k a2 2) (ta_xa k a3 3) i ↔ ta_hitY yT (nI k) (ta_enc a0) (ta_enc a1) (ta_enc a2) (ta_enc a3) i := by
  have k5 := A.2.2.2.2.2.1 i
  unfold ta_hitX ta_hitY
  rw [(X i hi).1, (Y i hi).1]
  by_cases c : K i = k
  · subst c
    have e0 := ta_hit1 A X Y hi h3 (j := 0) (a := a0) (by omega) (hn 0 (by omega))
    have e1 := ta_hit1 A X Y hi h3 (j := 1) (a := a1) (by omega) (hn 1 (by omega))
    have e2 := ta_hit1 A X Y hi h3 (j := 2) (a := a2) (by omega) (hn 2 (by omega))
    have e3 := ta_hit1 A X Y hi h3 (j := 3) (a := a3) (by omega) (hn 3 (by omega))
    constructor
    · rintro ⟨x, y0, y1, y2, y3⟩
      exact ⟨x, e0.mp y0, e1.mp y1, e2.mp y2, e3.mp y3⟩
    · rintro ⟨x, y0, y1, y2, y3⟩
      exact ⟨x, e0.mpr y0, e1.mpr y1, e2.mpr y2, e3.mpr y3⟩
  · have : ¬ nI (K i) = nI k := by rw [nI_eq (by omega) (by omega)]; exact c
    exact ⟨fun h => absurd h.1 this, fun h => absurd h.1 this⟩
theorem ta_xi_step {post : Int32 → SX → Prop} {k p0 p1 p2 p3 : Int32} {i n : Nat} (n24 : nc ≤ 24) (hi : i < nc) (hn : ¬ ta_hitX xK xP k p0 p1 p2 p3 i)
    (W : wX_intern_3 post k p0 p1 p2 p3 xmN xmL xmD xmT (nI nc) xlc xbc xvd xel xkd xke xqd xst xat xpc xdp xtp xK xP xL xbt xbf xR xB xQ xS xt xv n (nI (i + 1))) : wX_intern_3 post k p0 p1 p2 p3 xmN xmL xmD xmT (nI nc) xlc xbc xvd xel xkd xke xqd xst xat xpc xdp xtp xK xP xL xbt xbf xR xB xQ xS xt xv (n + 1) (nI i) := by
  have nx : ∀ x, x = nI i + 1 → wX_intern_3 post k p0 p1 p2 p3 xmN xmL xmD xmT (nI nc) xlc xbc xvd xel xkd xke xqd xst xat xpc xdp xtp xK xP xL xbt xbf xR xB xQ xS xt xv n x := nm_r (nI_1 i) W
  rw [wX_intern_3]
  refine br_f (nI_ge hi (by omega)) (nm_r (ta_4 i) ?_)
  simp (disch := omega) only [ta_p1, ta_p2, ta_p3, nI_clamp] at nx ⊢
  have v0 : vp_in (nI (4 * i)) 128 := ta_vi (by omega)
  have v1 : vp_in (nI (4 * i + 1)) 128 := ta_vi (by omega)
  have v2 : vp_in (nI (4 * i + 2)) 128 := ta_vi (by omega)
  have v3 : vp_in (nI (4 * i + 3)) 128 := ta_vi (by omega)
  exact ⟨ta_vi (by omega), br_c (fun h0 => ⟨v0, br_c (fun h1 => ⟨v1, br_c (fun h2 => ⟨v2, br_c (fun h3 => ⟨v3, br_c (fun h4 => absurd ⟨h0, h1, h2, h3, h4⟩ hn) (fun _ => nx)⟩) (fun _ => nx)⟩) (fun _ => nx)⟩) (fun _ => nx)⟩) (fun _ => nx)⟩
theorem ta_xi_skip {post : Int32 → SX → Prop} {k p0 p1 p2 p3 : Int32} {n : Nat} (n24 : nc ≤ 24) :
    ∀ d i, i + d ≤ nc → (∀ i', i' < i + d → ¬ ta_hitX xK xP k p0 p1 p2 p3 i') → wX_intern_3 post k p0 p1 p2 p3 xmN xmL xmD xmT (nI nc) xlc xbc xvd xel xkd xke xqd xst xat xpc xdp xtp xK xP xL xbt xbf xR xB xQ xS xt xv n (nI (i + d)) →
      wX_intern_3 post k p0 p1 p2 p3 xmN xmL xmD xmT (nI nc) xlc xbc xvd xel xkd xke xqd xst xat xpc xdp xtp xK xP xL xbt xbf xR xB xQ xS xt xv (n + d) (nI i) := by
  intro d
  induction d with
  | zero => intro i _ _ W; exact W
  | succ d ih =>
    intro i hi hn W
    refine ta_xi_step n24 (by omega) (hn i (by omega)) (ih (i + 1) (by omega) (fun i' h' => hn i' (by omega)) ?_)
    rw [show i + 1 + d = i + (d + 1) by omega]
    exact W
theorem ta_xi_hit {post : Int32 → SX → Prop} {k p0 p1 p2 p3 : Int32} {m : Nat} (n24 : nc ≤ 24) (hm : m < nc) (h : ta_hitX xK xP k p0 p1 p2 p3 m)
    (hn : ∀ i, i < m → ¬ ta_hitX xK xP k p0 p1 p2 p3 i) (hp : post (nI m) (xmN, xmL, xmD, xmT, nI nc, xlc, xbc, xvd, xel, xkd, xke, xqd, xst, xat, xpc, xdp, xtp, xK, xP, xL, xbt, xbf, xR, xB, xQ, xS, xt, xv)) : wpX_intern post (xmN, xmL, xmD, xmT, nI nc, xlc, xbc, xvd, xel, xkd, xke, xqd, xst, xat, xpc, xdp, xtp, xK, xP, xL, xbt, xbf, xR, xB, xQ, xS, xt, xv) k p0 p1 p2 p3 := by
  refine ⟨0 + 1 + m, ta_xi_skip n24 m 0 (by omega) (fun i hi => hn i (by omega)) ?_⟩
  rw [Nat.zero_add m, wX_intern_3]
  refine br_f (nI_ge hm (by omega)) (nm_r (ta_4 m) ?_)
  simp (disch := omega) only [ta_p1, ta_p2, ta_p3, nI_clamp]
  obtain ⟨h0, h1, h2, h3, h4⟩ := h
  exact ⟨ta_vi (by omega), br_t h0 ⟨ta_vi (by omega), br_t h1 ⟨ta_vi (by omega), br_t h2 ⟨ta_vi (by omega), br_t h3 ⟨ta_vi (by omega), br_t h4 hp⟩⟩⟩⟩⟩
theorem ta_xi_new {post : Int32 → SX → Prop} {k p0 p1 p2 p3 : Int32} (n24 : nc < mN) (m24 : mN ≤ 24)
    (hn : ∀ i, i < nc → ¬ ta_hitX xK xP k p0 p1 p2 p3 i) (hp : post (nI nc) (nI mN, xmL, xmD, xmT, nI (nc + 1), xlc, xbc, xvd, xel, xkd, xke, xqd, xst, xat, xpc, xdp, xtp, upd xK nc k, ta_xapp xP nc p0 p1 p2 p3, xL, xbt, xbf, xR, xB, xQ, xS, xt, xv)) : wpX_intern post (nI mN, xmL, xmD, xmT, nI nc, xlc, xbc, xvd, xel, xkd, xke, xqd, xst, xat, xpc, xdp, xtp, xK, xP, xL, xbt, xbf, xR, xB, xQ, xS, xt, xv) k p0 p1 p2 p3 := by
  refine ⟨0 + 1 + nc, ta_xi_skip (by omega) nc 0 (by omega) (fun i hi => hn i (by omega)) ?_⟩
  rw [Nat.zero_add nc, wX_intern_3]
  refine br_t (nI_le (Nat.le_refl _) (by omega)) (br_t (nI_lt n24 (by omega)) (nm_r (ta_4 nc) ?_))
  simp (disch := omega) only [ta_p1, ta_p2, ta_p3, nI_clamp]
  refine ⟨ta_vi (by omega), nm_e ⟨ta_vi (by omega), nm_e ⟨ta_vi (by omega), nm_e ⟨ta_vi (by omega), nm_e ⟨ta_vi (by omega), nm_e (nm_e ?_)⟩⟩⟩⟩⟩
  rw [nI_pred]
  exact hp
theorem ta_xi_full {post : Int32 → SX → Prop} {k p0 p1 p2 p3 : Int32} (n24 : nc ≤ 24) (hm : mN ≤ nc)
    (hn : ∀ i, i < nc → ¬ ta_hitX xK xP k p0 p1 p2 p3 i) (hp : post ta_m (nI mN, xmL, xmD, xmT, nI nc, xlc, xbc, xvd, xel, xkd, xke, xqd, xst, xat, xpc, xdp, xtp, xK, xP, xL, xbt, xbf, xR, xB, xQ, xS, xt, xv)) : wpX_intern post (nI mN, xmL, xmD, xmT, nI nc, xlc, xbc, xvd, xel, xkd, xke, xqd, xst, xat, xpc, xdp, xtp, xK, xP, xL, xbt, xbf, xR, xB, xQ, xS, xt, xv) k p0 p1 p2 p3 := by
  refine ⟨0 + 1 + nc, ta_xi_skip n24 nc 0 (by omega) (fun i hi => hn i (by omega)) ?_⟩
  rw [Nat.zero_add nc, wX_intern_3]
  exact br_t (nI_le (Nat.le_refl _) (by omega)) (br_f (nI_nlt hm (by omega)) hp)
/-- the three ends of intern with build -/
theorem ta_intern (A : ta_PA K N nc) (X : ta_XA K N nc xK xP) (Y : ta_YA K N nc yT) (hm : nc ≤ mN) (m24 : mN ≤ 24) {k : Nat} (h3 : 3 ≤ k) (h5 : k ≤ 5) {a0 a1 a2 a3 : Option Nat} (hn : ∀ j, j < 4 → ta_pt k ≤ j → ta_sl a0 a1 a2 a3 j = none) :
    (∃ r, (∀ {xmL xmD xmT xlc xbc xvd xel xkd xke xqd xst xat xpc xdp xtp : Int32} {xL xbt xbf xR xB xQ xS xt xv : Nat → Int32} (post : Int32 → SX → Prop), post r (nI mN, xmL, xmD, xmT, nI nc, xlc, xbc, xvd, xel, xkd, xke, xqd, xst, xat, xpc, xdp, xtp, xK, xP, xL, xbt, xbf, xR, xB, xQ, xS, xt, xv) → wpX_intern post (nI mN, xmL, xmD, xmT, nI nc, xlc, xbc, xvd, xel, xkd, xke, xqd, xst, xat, xpc, xdp, xtp, xK, xP, xL, xbt, xbf, xR, xB, xQ, xS, xt, xv) (nI k) (ta_xa k a0 0) (ta_xa k a1 1) (ta_xa k a2 2) (ta_xa k a3 3)) ∧
      (∀ {ytop ybc ylc yvd yel yst yat ypc ydp ytp ykd yke ymL ymD ymT : Int32} {yI yW yL ybt ybf yt yv : Nat → Int32} (post : Int32 → SY → Prop), post r (nI nc, nI nc, ybc, ylc, yvd, yel, yst, yat, ypc, ydp, ytp, ykd, yke, nI mN, ymL, ymD, ymT, yT, yI, yW, yL, ybt, ybf, yt, yv) → wpY_build post (nI nc, ytop, ybc, ylc, yvd, yel, yst, yat, ypc, ydp, ytp, ykd, yke, nI mN, ymL, ymD, ymT, yT, yI, yW, yL, ybt, ybf, yt, yv) (nI k) (ta_enc a0) (ta_enc a1) (ta_enc a2) (ta_enc a3))) ∨
    (nc < mN ∧ (∀ i, i < nc → ¬ ta_hitY yT (nI k) (ta_enc a0) (ta_enc a1) (ta_enc a2) (ta_enc a3) i) ∧
      (∀ {xmL xmD xmT xlc xbc xvd xel xkd xke xqd xst xat xpc xdp xtp : Int32} {xL xbt xbf xR xB xQ xS xt xv : Nat → Int32} (post : Int32 → SX → Prop), post (nI nc) (nI mN, xmL, xmD, xmT, nI (nc + 1), xlc, xbc, xvd, xel, xkd, xke, xqd, xst, xat, xpc, xdp, xtp, upd xK nc (nI k), ta_xapp xP nc (ta_xa k a0 0) (ta_xa k a1 1) (ta_xa k a2 2) (ta_xa k a3 3), xL, xbt, xbf, xR, xB, xQ, xS, xt, xv) → wpX_intern post (nI mN, xmL, xmD, xmT, nI nc, xlc, xbc, xvd, xel, xkd, xke, xqd, xst, xat, xpc, xdp, xtp, xK, xP, xL, xbt, xbf, xR, xB, xQ, xS, xt, xv) (nI k) (ta_xa k a0 0) (ta_xa k a1 1) (ta_xa k a2 2) (ta_xa k a3 3)) ∧
      (∀ {ytop ybc ylc yvd yel yst yat ypc ydp ytp ykd yke ymL ymD ymT : Int32} {yI yW yL ybt ybf yt yv : Nat → Int32} (post : Int32 → SY → Prop), post (nI nc) (nI (nc + 1), nI (nc + 1), ybc, ylc, yvd, yel, yst, yat, ypc, ydp, ytp, ykd, yke, nI mN, ymL, ymD, ymT, ta_app yT nc (nI k) (ta_enc a0) (ta_enc a1) (ta_enc a2) (ta_enc a3), yI, yW, yL, ybt, ybf, yt, yv) → wpY_build post (nI nc, ytop, ybc, ylc, yvd, yel, yst, yat, ypc, ydp, ytp, ykd, yke, nI mN, ymL, ymD, ymT, yT, yI, yW, yL, ybt, ybf, yt, yv) (nI k) (ta_enc a0) (ta_enc a1) (ta_enc a2) (ta_enc a3))) := by
  have n24 := A.2.1
  by_cases h : ∃ m, m < nc ∧ ta_hitY yT (nI k) (ta_enc a0) (ta_enc a1) (ta_enc a2) (ta_enc a3) m
  · obtain ⟨m0, l0, h0⟩ := h
    obtain ⟨m, a, b, c⟩ := ta_least m0 h0
    refine Or.inl ⟨nI m, fun post hp => ?_, fun post hp => ?_⟩
    · exact ta_xi_hit n24 (by omega) ((ta_hit_iff A X Y h3 h5 hn (by omega)).mpr b) (fun i hi z => c i hi ((ta_hit_iff A X Y h3 h5 hn (by omega)).mp z)) hp
    · exact ta_yj_hit (top := nc) (by omega) (by omega) b c hp
  · have hY : ∀ i, i < nc → ¬ ta_hitY yT (nI k) (ta_enc a0) (ta_enc a1) (ta_enc a2) (ta_enc a3) i := fun i hi z => h ⟨i, hi, z⟩
    have hX : ∀ i, i < nc → ¬ ta_hitX xK xP (nI k) (ta_xa k a0 0) (ta_xa k a1 1) (ta_xa k a2 2) (ta_xa k a3 3) i := fun i hi z => hY i hi ((ta_hit_iff A X Y h3 h5 hn hi).mp z)
    by_cases c : nc < mN
    · refine Or.inr ⟨c, hY, fun post hp => ?_, fun post hp => ?_⟩
      · exact ta_xi_new c m24 hX hp
      · exact ta_yj_new (top := nc) c (by omega) hY hp
    · refine Or.inl ⟨ta_m, fun post hp => ?_, fun post hp => ?_⟩
      · exact ta_xi_full n24 (by omega) hX hp
      · exact ta_yj_full (top := nc) (by omega) (by omega) hY hp
end
end
section
/-! the relation -/
def ta_AR (K : Nat → Nat) (N : Nat → Nat → Option Nat) (D E : Nat → Nat) (nc mN : Nat) (xK xP yT : Nat → Int32) : Prop :=
  ta_PA K N nc ∧ ta_DE K N D E nc ∧ ta_E01 K E nc ∧ ta_XA K N nc xK xP ∧ ta_YA K N nc yT ∧ ta_Can yT nc ∧ (∀ d, d < 8 → xK (24 + d) = nI 3) ∧ nc ≤ mN ∧ mN ≤ 24
def ta_KN (kd ke : Nat) (xP xR yW : Nat → Int32) : Prop :=
  kd ≤ 8 ∧ (ke = 0 ∨ ke = 1) ∧ (∀ r, r < 3 → xR r = yW r) ∧ (∀ j, j < kd → xP (4 * (23 + kd - j)) = yW (3 + j))
def ta_VD (vd el : Int32) : Prop := (el < 0 ∧ (vd = 0 ∨ vd = 1 ∨ vd = 12)) ∨ (¬ el < 0 ∧ vd ≠ 0 ∧ vd ≠ 1 ∧ vd ≠ 12)
def ta_LN (K : Nat → Nat) (nc : Nat) (L : Nat → Int32) (i : Nat) : Prop :=
  ∃ o a c : Nat, L (4 * i) = nI o ∧ o ≤ 14 ∧ L (4 * i + 1) = nI a ∧ a < 3 ∧ L (4 * i + 3) = nI c ∧ c < 2 ∧
    (o ≠ 0 → ∃ b, L (4 * i + 2) = nI b ∧ (o = 1 ∨ o = 8 ∨ o = 9 ∨ o = 10 ∨ o = 11 ∨ o = 12 → b < 8) ∧ (o = 2 ∨ o = 3 ∨ o = 5 ∨ o = 6 → b < 3) ∧ (o = 4 → b < nc ∧ K b = 4) ∧ (o = 7 ∨ o = 8 ∨ o = 13 ∨ o = 14 → b = 0))
def ta_PR (K : Nat → Nat) (nc mL lc bc : Nat) (bT bF L : Nat → Int32) : Prop :=
  bc ≤ 8 ∧ lc ≤ mL ∧ mL ≤ 40 ∧ (∀ l, l < bc → ∃ t, bT l = nI t ∧ t < nc ∧ K t = 5) ∧ (∀ l, l < bc → ∃ f, bF l = nI f ∧ f ≤ lc) ∧ (∀ i, i < lc → ta_LN K nc L i)
def ta_CO (bc tp : Nat) (t v : Int32) : Prop := (t = nI 2 → ∃ l, v = nI l ∧ l < bc) ∧ (t = nI 3 → ∃ l, v = nI l ∧ l < tp)
def ta_MA (mD mT bc lc dp tp at' pc : Nat) (xt xv yt yv : Nat → Int32) : Prop :=
  mD ≤ 24 ∧ mT ≤ 12 ∧ dp ≤ mD ∧ tp ≤ mT ∧ at' < 8 ∧ pc ≤ lc ∧ (∀ r, r < 3 → yt r = xt r ∧ yv r = xv r ∧ ta_CO bc tp (xt r) (xv r)) ∧
  (∀ j, j < dp → yt (3 + j) = xt (2 + dp - j) ∧ yv (3 + j) = xv (2 + dp - j) ∧ xt (2 + dp - j) ≠ nI 0 ∧ ta_CO bc tp (xt (2 + dp - j)) (xv (2 + dp - j))) ∧
  (∀ i, i < 2 * tp → yt (27 + i) = xt (27 + i) ∧ yv (27 + i) = xv (27 + i) ∧ ta_CO bc tp (xt (27 + i)) (xv (27 + i)))
/-- the relation at the head of a turn whose first cell is k -/
def i_Rel (k : Nat) (u : SX) (v : SY) : Prop :=
  ∃ (K : Nat → Nat) (N : Nat → Nat → Option Nat) (D E : Nat → Nat) (mN mL mD mT nc lc bc kd ke at' pc dp tp : Nat) (vd el st xqd ytop : Int32) (xK xP xL xbt xbf xR xB xQ xt xv yT yI yW yt yv : Nat → Int32),
    u = (nI mN, nI mL, nI mD, nI mT, nI nc, nI lc, nI bc, vd, el, nI kd, nI ke, xqd, st, nI at', nI pc, nI dp, nI tp, xK, xP, xL, xbt, xbf, xR, xB, xQ, fun _ => 0, xt, xv) ∧
    v = (nI nc, ytop, nI bc, nI lc, vd, el, st, nI at', nI pc, nI dp, nI tp, nI kd, nI ke, nI mN, nI mL, nI mD, nI mT, yT, yI, yW, xL, xbt, xbf, yt, yv) ∧
    ta_AR K N D E nc mN xK xP yT ∧ ta_KN kd ke xP xR yW ∧ ta_VD vd el ∧ ta_PR K nc mL lc bc xbt xbf xL ∧ ta_MA mD mT bc lc dp tp at' pc xt xv yt yv
theorem i_up {k : Nat} {u : SX} {v : SY} (h : i_Rel k u v) : i_Rel (k + 5) u v := h
theorem ta_el {k : Nat} {u : SX} {v : SY} {P : SX → SY → Prop}
    (h : ∀ (K : Nat → Nat) (N : Nat → Nat → Option Nat) (D E : Nat → Nat) (mN mL mD mT nc lc bc kd ke at' pc dp tp : Nat) (vd el st xqd ytop : Int32) (xK xP xL xbt xbf xR xB xQ xt xv yT yI yW yt yv : Nat → Int32),
      ta_AR K N D E nc mN xK xP yT → ta_KN kd ke xP xR yW → ta_VD vd el → ta_PR K nc mL lc bc xbt xbf xL → ta_MA mD mT bc lc dp tp at' pc xt xv yt yv →
      P (nI mN, nI mL, nI mD, nI mT, nI nc, nI lc, nI bc, vd, el, nI kd, nI ke, xqd, st, nI at', nI pc, nI dp, nI tp, xK, xP, xL, xbt, xbf, xR, xB, xQ, fun _ => 0, xt, xv)
        (nI nc, ytop, nI bc, nI lc, vd, el, st, nI at', nI pc, nI dp, nI tp, nI kd, nI ke, nI mN, nI mL, nI mD, nI mT, yT, yI, yW, xL, xbt, xbf, yt, yv))
    (I : i_Rel k u v) : P u v :=
  I.elim fun K I => I.elim fun N I => I.elim fun D I => I.elim fun E I => I.elim fun mN I => I.elim fun mL I => I.elim fun mD I => I.elim fun mT I => I.elim fun nc I => I.elim fun lc I => I.elim fun bc I => I.elim fun kd I => I.elim fun ke I => I.elim fun at' I => I.elim fun pc I => I.elim fun dp I => I.elim fun tp I =>
  I.elim fun vd I => I.elim fun el I => I.elim fun st I => I.elim fun xqd I => I.elim fun ytop I => I.elim fun xK I => I.elim fun xP I => I.elim fun xL I => I.elim fun xbt I => I.elim fun xbf I => I.elim fun xR I => I.elim fun xB I => I.elim fun xQ I => I.elim fun xt I => I.elim fun xv I =>
  I.elim fun yT I => I.elim fun yI I => I.elim fun yW I => I.elim fun yt I => I.elim fun yv I => by
    rw [I.1, I.2.1]
    exact h K N D E mN mL mD mT nc lc bc kd ke at' pc dp tp vd el st xqd ytop xK xP xL xbt xbf xR xB xQ xt xv yT yI yW yt yv I.2.2.1 I.2.2.2.1 I.2.2.2.2.1 I.2.2.2.2.2.1 I.2.2.2.2.2.2
theorem ta_in' {k : Nat} {K : Nat → Nat} {N : Nat → Nat → Option Nat} {D E : Nat → Nat} {mN mL mD mT nc lc bc kd ke at' pc dp tp : Nat} {vd el st xqd ytop : Int32} {xK xP xL xbt xbf xR xB xQ xt xv yT yI yW yt yv : Nat → Int32}
    (h1 : ta_AR K N D E nc mN xK xP yT) (h2 : ta_KN kd ke xP xR yW) (h3 : ta_VD vd el) (h4 : ta_PR K nc mL lc bc xbt xbf xL) (h5 : ta_MA mD mT bc lc dp tp at' pc xt xv yt yv) :
    i_Rel k (nI mN, nI mL, nI mD, nI mT, nI nc, nI lc, nI bc, vd, el, nI kd, nI ke, xqd, st, nI at', nI pc, nI dp, nI tp, xK, xP, xL, xbt, xbf, xR, xB, xQ, fun _ => 0, xt, xv)
        (nI nc, ytop, nI bc, nI lc, vd, el, st, nI at', nI pc, nI dp, nI tp, nI kd, nI ke, nI mN, nI mL, nI mD, nI mT, yT, yI, yW, xL, xbt, xbf, yt, yv) :=
  ⟨K, N, D, E, mN, mL, mD, mT, nc, lc, bc, kd, ke, at', pc, dp, tp, vd, el, st, xqd, ytop, xK, xP, xL, xbt, xbf, xR, xB, xQ, xt, xv, yT, yI, yW, yt, yv, rfl, rfl, h1, h2, h3, h4, h5⟩
end
section
/-! the arena grows by a node -/
section
variable {K : Nat → Nat} {N : Nat → Nat → Option Nat} {D E : Nat → Nat} {mN mL mD mT nc lc bc kd ke at' pc dp tp : Nat} {vd el st xqd ytop : Int32} {xK xP xL xbt xbf xR xB xQ xt xv yT yI yW yt yv : Nat → Int32}
variable {k : Nat} {a0 a1 a2 a3 : Option Nat}
theorem ta_GW_mono {K' : Nat → Nat} {nc' w : Nat} (hK : ∀ i, i < nc → K' i = K i) (hn : nc ≤ nc') (h : ta_GW K nc w) : ta_GW K' nc' w := by
  have := h.1
  refine ⟨by omega, ?_⟩
  rw [hK _ this]; exact h.2
theorem ta_SK_mono {K' : Nat → Nat} {t : Nat} (hK : ∀ i, i < nc → K' i = K i) (ht : t < nc) (h : ta_SK K t) : ta_SK K' t := by
  unfold ta_SK
  rw [hK _ ht]; exact h
theorem ta_xapp_lo {p0 p1 p2 p3 : Int32} {j : Nat} (h : j < 4 * nc ∨ 4 * nc + 4 ≤ j) : ta_xapp xP nc p0 p1 p2 p3 j = xP j := by
  unfold ta_xapp
  rw [pk_un (by omega), pk_un (by omega), pk_un (by omega), pk_un (by omega)]
theorem ta_xapp_at {p0 p1 p2 p3 : Int32} : ta_xapp xP nc p0 p1 p2 p3 (4 * nc + 0) = p0 ∧ ta_xapp xP nc p0 p1 p2 p3 (4 * nc + 1) = p1 ∧ ta_xapp xP nc p0 p1 p2 p3 (4 * nc + 2) = p2 ∧ ta_xapp xP nc p0 p1 p2 p3 (4 * nc + 3) = p3 := by
  unfold ta_xapp
  refine ⟨?_, ?_, ?_, ?_⟩
  · rw [pk_un (by omega), pk_un (by omega), pk_un (by omega), Nat.add_zero, pk_us]
  · rw [pk_un (by omega), pk_un (by omega), pk_us]
  · rw [pk_un (by omega), pk_us]
  · rw [pk_us]
theorem ta_j4 {P : Nat → Prop} (h0 : P 0) (h1 : P 1) (h2 : P 2) (h3 : P 3) : ∀ j, j < 4 → P j := by
  intro j hj
  rcases Nat.lt_or_ge j 1 with g | g
  · have : j = 0 := by omega
    rw [this]; exact h0
  · rcases Nat.lt_or_ge j 2 with g | g
    · have : j = 1 := by omega
      rw [this]; exact h1
    · rcases Nat.lt_or_ge j 3 with g | g
      · have : j = 2 := by omega
        rw [this]; exact h2
      · have : j = 3 := by omega
        rw [this]; exact h3
theorem ta_grow (A : ta_AR K N D E nc mN xK xP yT) (hc : nc < mN) (h3 : 3 ≤ k) (h5 : k ≤ 5)
    (hw : ∀ j, j < k - 2 → (∀ w, ta_sl a0 a1 a2 a3 j = some w → ta_GW K nc w) ∧ (ta_sl a0 a1 a2 a3 j = none → k = 5))
    (ht : k = 3 ∨ k = 5 → ∃ t, ta_sl a0 a1 a2 a3 (k - 2) = some t ∧ t < nc ∧ ta_SK K t ∧ (k = 3 → D t ≤ 5))
    (hn : ∀ j, j < 4 → k - 2 ≤ j → ¬ (j = k - 2 ∧ (k = 3 ∨ k = 5)) → ta_sl a0 a1 a2 a3 j = none)
    (hY : ∀ i, i < nc → ¬ ta_hitY yT (nI k) (ta_enc a0) (ta_enc a1) (ta_enc a2) (ta_enc a3) i) :
    ∃ (K' : Nat → Nat) (N' : Nat → Nat → Option Nat) (D' E' : Nat → Nat), (∀ i, i < nc → K' i = K i) ∧
      ta_AR K' N' D' E' (nc + 1) mN (upd xK nc (nI k)) (ta_xapp xP nc (ta_xa k a0 0) (ta_xa k a1 1) (ta_xa k a2 2) (ta_xa k a3 3)) (ta_app yT nc (nI k) (ta_enc a0) (ta_enc a1) (ta_enc a2) (ta_enc a3)) := by
  obtain ⟨P, H, H1, X, Y, C, k3, m1, m24⟩ := A
  have n3 := P.1
  have n24 := P.2.1
  have S := P.2.2.2.2.2.2.2
  let K' : Nat → Nat := fun i => if i = nc then k else K i
  let N' : Nat → Nat → Option Nat := fun i j => if i = nc then ta_sl a0 a1 a2 a3 j else N i j
  let D' : Nat → Nat := fun i => if i = nc then D (a1.getD 0) + 1 else D i
  let E' : Nat → Nat := fun i => if i = nc then E (a1.getD 0) else E i
  have eK : ∀ i, i ≠ nc → K' i = K i := fun i hi => if_neg hi
  have eKn : K' nc = k := if_pos rfl
  have eN : ∀ i j, i ≠ nc → N' i j = N i j := fun i j hi => if_neg hi
  have eNn : ∀ j, N' nc j = ta_sl a0 a1 a2 a3 j := fun j => if_pos rfl
  have eD : ∀ i, i ≠ nc → D' i = D i := fun i hi => if_neg hi
  have eDn : D' nc = D (a1.getD 0) + 1 := if_pos rfl
  have eE : ∀ i, i ≠ nc → E' i = E i := fun i hi => if_neg hi
  have eEn : E' nc = E (a1.getD 0) := if_pos rfl
  clear_value K' N' D' E'
  have hK : ∀ i, i < nc → K' i = K i := fun i hi => eK i (by omega)
  refine ⟨K', N', D', E', hK, ⟨by omega, by omega, by rw [eK _ (by omega)]; exact P.2.2.1, by rw [eK _ (by omega)]; exact P.2.2.2.1, by rw [eK _ (by omega)]; exact P.2.2.2.2.1, fun i => ?_, fun i hi1 hi2 => ?_, fun i hi j hj => ?_⟩, ?_, ?_, ?_, ?_, ta_app_can C hY, fun d hd => ?_, by omega, m24⟩
  · by_cases c : i = nc
    · rw [c, eKn]; exact h5
    · rw [eK i c]; exact P.2.2.2.2.2.1 i
  · by_cases c : i = nc
    · rw [c, eKn]; exact h3
    · rw [eK i c]; exact P.2.2.2.2.2.2.1 i hi1 (by omega)
  · by_cases c : i = nc
    · subst c
      unfold ta_SL
      rw [eKn, eNn]
      refine ⟨fun h => ⟨fun w hw' => ?_, (hw j h).2⟩, fun h => ⟨fun h' => ?_, hn j hj h⟩⟩
      · have g := (hw j h).1 w hw'
        exact ⟨ta_GW_mono hK (by omega) g, g.1⟩
      · obtain ⟨t, e, lt, sk, _⟩ := ht h'.2
        rw [h'.1]
        exact ⟨t, e, lt, ta_SK_mono hK lt sk⟩
    · have hi' : i < nc := by omega
      have s := S i hi' j hj
      unfold ta_SL at s ⊢
      rw [eK i c, eN i j c]
      refine ⟨fun h => ⟨fun w hw' => ?_, (s.1 h).2⟩, fun h => ⟨fun h' => ?_, (s.2 h).2⟩⟩
      · have g := (s.1 h).1 w hw'
        exact ⟨ta_GW_mono hK (by omega) g.1, g.2⟩
      · obtain ⟨t, e, lt, sk⟩ := (s.2 h).1 h'
        exact ⟨t, e, lt, ta_SK_mono hK (by omega) sk⟩
  · intro i hi sk
    by_cases c : i = nc
    · subst c
      have k3' : k = 3 := by
        rcases sk with z | z | z
        · rw [eKn] at z; omega
        · rw [eKn] at z; omega
        · rw [eKn] at z; exact z
      obtain ⟨t, e, lt, sk', d5⟩ := ht (Or.inl k3')
      have e1 : a1 = some t := by
        rw [k3'] at e
        exact e
      rw [eKn, eDn, eEn, e1]
      have d5' := d5 k3'
      refine ⟨by show D t + 1 ≤ 6; omega, fun _ t' ht' => ?_, fun z => absurd k3' z⟩
      rw [eNn] at ht'
      have : a1 = some t' := ht'
      rw [e1] at this
      have := Option.some.inj this
      subst this
      rw [eD _ (by omega), eE _ (by omega)]
      exact ⟨rfl, rfl⟩
    · have hi' : i < nc := by omega
      have sk' : ta_SK K i := by unfold ta_SK at sk ⊢; rw [eK i c] at sk; exact sk
      obtain ⟨d6, ha, hb⟩ := H i hi' sk'
      rw [eK i c, eD i c, eE i c]
      refine ⟨d6, fun z t ht' => ?_, hb⟩
      rw [eN i 1 c] at ht'
      obtain ⟨w, t', _, e1, _, _, lt, _⟩ := ta_cons P hi' z
      have : t = t' := Option.some.inj (ht'.symm.trans e1)
      subst this
      rw [eD _ (by omega), eE _ (by omega)]
      exact ha z t ht'
  · intro i hi sk
    by_cases c : i = nc
    · subst c
      have k3' : k = 3 := by
        rcases sk with z | z | z
        · rw [eKn] at z; omega
        · rw [eKn] at z; omega
        · rw [eKn] at z; exact z
      obtain ⟨t, e, lt, sk', _⟩ := ht (Or.inl k3')
      have e1 : a1 = some t := by
        rw [k3'] at e
        exact e
      rw [eEn, e1]
      exact H1 t lt sk'
    · have hi' : i < nc := by omega
      have sk' : ta_SK K i := by unfold ta_SK at sk ⊢; rw [eK i c] at sk; exact sk
      rw [eE i c]
      exact H1 i hi' sk'
  · intro i hi
    by_cases c : i = nc
    · subst c
      rw [eKn, pk_us]
      obtain ⟨q0, q1, q2, q3⟩ := ta_xapp_at (xP := xP) (nc := i) (p0 := ta_xa k a0 0) (p1 := ta_xa k a1 1) (p2 := ta_xa k a2 2) (p3 := ta_xa k a3 3)
      refine ⟨rfl, ta_j4 ?_ ?_ ?_ ?_⟩
      · rw [q0, eNn]; rfl
      · rw [q1, eNn]; rfl
      · rw [q2, eNn]; rfl
      · rw [q3, eNn]; rfl
    · have hi' : i < nc := by omega
      rw [eK i c, pk_un c]
      refine ⟨(X i hi').1, fun j hj => ?_⟩
      rw [eN i j c, ta_xapp_lo (by omega)]
      exact (X i hi').2 j hj
  · intro i hi
    by_cases c : i = nc
    · subst c
      rw [eKn]
      obtain ⟨q, q0, q1, q2, q3⟩ := ta_app_hit (yT := yT) (top := i) (p0 := nI k) (p1 := ta_enc a0) (p2 := ta_enc a1) (p3 := ta_enc a2) (p4 := ta_enc a3)
      refine ⟨q, ta_j4 ?_ ?_ ?_ ?_⟩
      · rw [eNn]; exact q0
      · rw [eNn]; exact q1
      · rw [eNn]; exact q2
      · rw [eNn]; exact q3
    · have hi' : i < nc := by omega
      rw [eK i c, ta_app_lo (by omega)]
      refine ⟨(Y i hi').1, fun j hj => ?_⟩
      rw [eN i j c, ta_app_lo (by omega)]
      exact (Y i hi').2 j hj
  · rw [pk_un (by omega)]; exact k3 d hd
theorem ta_LN_mono {K' : Nat → Nat} {nc' i : Nat} (hK : ∀ i, i < nc → K' i = K i) (hn : nc ≤ nc') (h : ta_LN K nc xL i) : ta_LN K' nc' xL i := by
  obtain ⟨o, a, c, h1, h2, h3, h4, h5, h6, h7⟩ := h
  refine ⟨o, a, c, h1, h2, h3, h4, h5, h6, fun z => ?_⟩
  obtain ⟨b, g1, g2, g3, g4, g5⟩ := h7 z
  refine ⟨b, g1, g2, g3, fun z4 => ?_, g5⟩
  have := g4 z4
  rw [hK _ this.1]
  exact ⟨by omega, this.2⟩
theorem ta_PR_mono {K' : Nat → Nat} {nc' : Nat} (hK : ∀ i, i < nc → K' i = K i) (hn : nc ≤ nc') (h : ta_PR K nc mL lc bc xbt xbf xL) : ta_PR K' nc' mL lc bc xbt xbf xL := by
  obtain ⟨h1, h2, h3, h4, h5, h6⟩ := h
  refine ⟨h1, h2, h3, fun l hl => ?_, h5, fun i hi => ta_LN_mono hK hn (h6 i hi)⟩
  obtain ⟨t, a, b, c⟩ := h4 l hl
  exact ⟨t, a, by omega, by rw [hK _ b]; exact c⟩
theorem ta_KN_app {p0 p1 p2 p3 : Int32} (hc : nc < 24) (h : ta_KN kd ke xP xR yW) : ta_KN kd ke (ta_xapp xP nc p0 p1 p2 p3) xR yW := by
  obtain ⟨h1, h2, h3, h4⟩ := h
  refine ⟨h1, h2, h3, fun j hj => ?_⟩
  rw [ta_xapp_lo (by omega)]
  exact h4 j hj
end
end
section
/-! cons, tuple, code -/
section
variable {K : Nat → Nat} {N : Nat → Nat → Option Nat} {D E : Nat → Nat} {mN mL mD mT nc lc bc kd ke at' pc dp tp : Nat} {vd el st xqd ytop : Int32} {xK xP xL xbt xbf xR xB xQ xt xv yT yI yW yt yv : Nat → Int32}
variable {k : Nat} {a0 a1 a2 a3 : Option Nat}
theorem ta_ib (A : ta_AR K N D E nc mN xK xP yT) (Kn : ta_KN kd ke xP xR yW) (Pr : ta_PR K nc mL lc bc xbt xbf xL) (h3 : 3 ≤ k) (h5 : k ≤ 5)
    (hw : ∀ j, j < k - 2 → (∀ w, ta_sl a0 a1 a2 a3 j = some w → ta_GW K nc w) ∧ (ta_sl a0 a1 a2 a3 j = none → k = 5))
    (ht : k = 3 ∨ k = 5 → ∃ t, ta_sl a0 a1 a2 a3 (k - 2) = some t ∧ t < nc ∧ ta_SK K t ∧ (k = 3 → D t ≤ 5))
    (hn : ∀ j, j < 4 → k - 2 ≤ j → ¬ (j = k - 2 ∧ (k = 3 ∨ k = 5)) → ta_sl a0 a1 a2 a3 j = none) :
    ∃ (r : Int32) (K' : Nat → Nat) (N' : Nat → Nat → Option Nat) (D' E' : Nat → Nat) (nc' : Nat) (xK' xP' yT' : Nat → Int32),
      ta_AR K' N' D' E' nc' mN xK' xP' yT' ∧ ta_KN kd ke xP' xR yW ∧ ta_PR K' nc' mL lc bc xbt xbf xL ∧
      (∀ {xmL xmD xmT xlc xbc xvd xel xkd xke xqd xst xat xpc xdp xtp : Int32} {xL xbt xbf xR xB xQ xS xt xv : Nat → Int32} (post : Int32 → SX → Prop), post r (nI mN, xmL, xmD, xmT, nI nc', xlc, xbc, xvd, xel, xkd, xke, xqd, xst, xat, xpc, xdp, xtp, xK', xP', xL, xbt, xbf, xR, xB, xQ, xS, xt, xv) → wpX_intern post (nI mN, xmL, xmD, xmT, nI nc, xlc, xbc, xvd, xel, xkd, xke, xqd, xst, xat, xpc, xdp, xtp, xK, xP, xL, xbt, xbf, xR, xB, xQ, xS, xt, xv) (nI k) (ta_xa k a0 0) (ta_xa k a1 1) (ta_xa k a2 2) (ta_xa k a3 3)) ∧
      (∀ {ytop ybc ylc yvd yel yst yat ypc ydp ytp ykd yke ymL ymD ymT : Int32} {yI yW yL ybt ybf yt yv : Nat → Int32} (post : Int32 → SY → Prop), post r (nI nc', nI nc', ybc, ylc, yvd, yel, yst, yat, ypc, ydp, ytp, ykd, yke, nI mN, ymL, ymD, ymT, yT', yI, yW, yL, ybt, ybf, yt, yv) → wpY_build post (nI nc, ytop, ybc, ylc, yvd, yel, yst, yat, ypc, ydp, ytp, ykd, yke, nI mN, ymL, ymD, ymT, yT, yI, yW, yL, ybt, ybf, yt, yv) (nI k) (ta_enc a0) (ta_enc a1) (ta_enc a2) (ta_enc a3)) := by
  have hnp : ∀ j, j < 4 → ta_pt k ≤ j → ta_sl a0 a1 a2 a3 j = none := by
    intro j hj hp
    rw [ta_pt_le h3 h5] at hp
    by_cases c : k = 5
    · rw [if_pos c] at hp; omega
    · rw [if_neg c] at hp
      exact hn j hj (by omega) (by omega)
  rcases ta_intern (a0 := a0) (a1 := a1) (a2 := a2) (a3 := a3) A.1 A.2.2.2.1 A.2.2.2.2.1 A.2.2.2.2.2.2.2.1 A.2.2.2.2.2.2.2.2 h3 h5 hnp with ⟨r, GX, GY⟩ | ⟨hc, hY, GX, GY⟩
  · exact ⟨r, K, N, D, E, nc, xK, xP, yT, A, Kn, Pr, GX, GY⟩
  · obtain ⟨K', N', D', E', hK, A'⟩ := ta_grow A hc h3 h5 hw ht hn hY
    exact ⟨nI nc, K', N', D', E', nc + 1, _, _, _, A', ta_KN_app (by have := A.2.2.2.2.2.2.2.2; omega) Kn, ta_PR_mono hK (by omega) Pr, GX, GY⟩
end
theorem i_vc_cons {k : Nat} {u : SX} {v : SY} (I : i_Rel k u v) (hk : k + 5 ≤ 2564) (v1 : Int32) (v2 : Int32) : wpX_cons (fun r u' => wpY_cons (fun r' v' => r' = r ∧ i_Rel (k + 5) u' v') v v1 v2) u v1 v2 := by
  refine ta_el (P := fun u v => wpX_cons (fun r u' => wpY_cons (fun r' v' => r' = r ∧ i_Rel (k + 5) u' v') v v1 v2) u v1 v2) ?_ I
  intro K N D E mN mL mD mT nc lc bc kd ke at' pc dp tp vd el st xqd ytop xK xP xL xbt xbf xR xB xQ xt xv yT yI yW yt yv A Kn Vd Pr Ma
  have P := A.1
  have X := A.2.2.2.1
  have Y := A.2.2.2.2.1
  have H := A.2.1
  have rel := ta_in' (k := k + 5) (xqd := xqd) (ytop := ytop) (xB := xB) (xQ := xQ) (yI := yI) (st := st) A Kn Vd Pr Ma
  unfold wpX_cons
  refine ta_xgood P X (fun g1 => br_f (by decide) ?_) (fun g1 => br_t rfl ?_)
  · refine ta_xisStack P X (fun g2 => br_f (by decide) ?_) (fun g2 => br_t rfl ?_)
    · obtain ⟨w, rfl, gw⟩ := g1
      obtain ⟨t, rfl, tn, sk⟩ := g2
      refine ta_xcells P X H tn sk ?_
      have d6 := (H t tn sk).1
      refine pk_le (D t) 5 (fun hd => ?_) (fun hd => ?_)
      · obtain ⟨r, K', N', D', E', nc', xK', xP', yT', A', Kn', Pr', GX, GY⟩ := ta_ib (k := 3) (a0 := some w) (a1 := some t) (a2 := none) (a3 := none) A Kn Pr (by omega) (by omega)
          (fun j hj => by
            have : j = 0 := by omega
            subst this
            exact ⟨fun w' e => by have := Option.some.inj e; subst this; exact gw, fun e => absurd (show some w = (none : Option Nat) from e) (by simp)⟩)
          (fun _ => ⟨t, rfl, tn, sk, fun _ => hd⟩)
          (ta_j4 (fun z => by omega) (fun _ z => by omega) (fun _ _ => rfl) (fun _ _ => rfl))
        refine GX _ ?_
        show wpY_cons _ _ _ _
        unfold wpY_cons
        refine ta_ygood P Y (fun _ => br_f (by decide) ?_) (fun z => absurd ⟨w, rfl, gw⟩ z)
        refine ta_yisStack P Y (fun _ => br_f (by decide) ?_) (fun z => absurd ⟨t, rfl, tn, sk⟩ z)
        refine ta_ycells P Y H tn sk ?_
        refine br_t (nI_le (b := 5) hd (by decide)) ?_
        refine GY _ ?_
        exact ⟨rfl, ta_in' A' Kn' Vd Pr' Ma⟩
      · show wpY_cons _ _ _ _
        unfold wpY_cons
        refine ta_ygood P Y (fun _ => br_f (by decide) ?_) (fun z => absurd ⟨w, rfl, gw⟩ z)
        refine ta_yisStack P Y (fun _ => br_f (by decide) ?_) (fun z => absurd ⟨t, rfl, tn, sk⟩ z)
        refine ta_ycells P Y H tn sk ?_
        exact br_f (nI_ge (a := 5) hd (by omega)) ⟨rfl, rel⟩
    · show wpY_cons _ _ _ _
      unfold wpY_cons
      refine ta_ygood P Y (fun _ => br_f (by decide) ?_) (fun z => absurd g1 z)
      exact ta_yisStack P Y (fun z => absurd z g2) (fun _ => br_t rfl ⟨rfl, rel⟩)
  · show wpY_cons _ _ _ _
    unfold wpY_cons
    exact ta_ygood P Y (fun z => absurd z g1) (fun _ => br_t rfl ⟨rfl, rel⟩)
theorem i_vc_tuple {k : Nat} {u : SX} {v : SY} (I : i_Rel k u v) (hk : k + 5 ≤ 2564) (v1 : Int32) (v2 : Int32) : wpX_tuple (fun r u' => wpY_tuple (fun r' v' => r' = r ∧ i_Rel (k + 5) u' v') v v1 v2) u v1 v2 := by
  refine ta_el (P := fun u v => wpX_tuple (fun r u' => wpY_tuple (fun r' v' => r' = r ∧ i_Rel (k + 5) u' v') v v1 v2) u v1 v2) ?_ I
  intro K N D E mN mL mD mT nc lc bc kd ke at' pc dp tp vd el st xqd ytop xK xP xL xbt xbf xR xB xQ xt xv yT yI yW yt yv A Kn Vd Pr Ma
  have P := A.1
  have X := A.2.2.2.1
  have Y := A.2.2.2.2.1
  have rel := ta_in' (k := k + 5) (xqd := xqd) (ytop := ytop) (xB := xB) (xQ := xQ) (yI := yI) (st := st) A Kn Vd Pr Ma
  unfold wpX_tuple
  refine ta_xgood P X (fun g1 => br_f (by decide) ?_) (fun g1 => br_t rfl ?_)
  · refine ta_xgood P X (fun g2 => br_f (by decide) ?_) (fun g2 => br_t rfl ?_)
    · obtain ⟨w, rfl, gw⟩ := g1
      obtain ⟨w', rfl, gw'⟩ := g2
      obtain ⟨r, K', N', D', E', nc', xK', xP', yT', A', Kn', Pr', GX, GY⟩ := ta_ib (k := 4) (a0 := some w) (a1 := some w') (a2 := none) (a3 := none) A Kn Pr (by omega) (by omega)
        (fun j hj => by
          rcases Nat.lt_or_ge j 1 with z | z
          · have : j = 0 := by omega
            subst this
            exact ⟨fun w' e => by have := Option.some.inj e; subst this; exact gw, fun e => absurd (show some w = (none : Option Nat) from e) (by simp)⟩
          · have : j = 1 := by omega
            subst this
            exact ⟨fun w' e => by have := Option.some.inj e; subst this; exact gw', fun e => absurd (show some w' = (none : Option Nat) from e) (by simp)⟩)
        (fun z => by omega)
        (ta_j4 (fun z => by omega) (fun z => by omega) (fun _ _ => rfl) (fun _ _ => rfl))
      refine GX _ ?_
      show wpY_tuple _ _ _ _
      unfold wpY_tuple
      refine ta_ygood P Y (fun _ => br_f (by decide) ?_) (fun z => absurd ⟨w, rfl, gw⟩ z)
      refine ta_ygood P Y (fun _ => br_f (by decide) ?_) (fun z => absurd ⟨w', rfl, gw'⟩ z)
      refine GY _ ?_
      exact ⟨rfl, ta_in' A' Kn' Vd Pr' Ma⟩
    · show wpY_tuple _ _ _ _
      unfold wpY_tuple
      refine ta_ygood P Y (fun _ => br_f (by decide) ?_) (fun z => absurd g1 z)
      exact ta_ygood P Y (fun z => absurd z g2) (fun _ => br_t rfl ⟨rfl, rel⟩)
  · show wpY_tuple _ _ _ _
    unfold wpY_tuple
    exact ta_ygood P Y (fun z => absurd z g1) (fun _ => br_t rfl ⟨rfl, rel⟩)
end
section
/-! code, fits -/
section
variable {xmN xmL xmD xmT xnc xlc xbc xvd xel xkd xke xqd xst xat xpc xdp xtp : Int32} {xK xP xL xbt xbf xR xB xQ xS xt xv : Nat → Int32}
variable {ync ytop ybc ylc yvd yel yst yat ypc ydp ytp ykd yke ymN ymL ymD ymT : Int32} {yT yI yW yL ybt ybf yt yv : Nat → Int32}
variable {K : Nat → Nat} {N : Nat → Nat → Option Nat} {D E : Nat → Nat} {nc mN : Nat}
def ta_AG (K : Nat → Nat) (nc : Nat) (p : Int32) : Prop := ∃ a : Option Nat, p = ta_enc a ∧ ∀ w, a = some w → ta_GW K nc w
theorem ta_AGm : ta_AG K nc (-1) := ⟨none, rfl, fun w h => absurd h (by simp)⟩
theorem ta_AGg {p : Int32} (h : ta_GP K nc p) : ta_AG K nc p := by
  obtain ⟨w, e, g⟩ := h
  exact ⟨some w, e, fun w' h' => by have := Option.some.inj h'; subst this; exact g⟩
theorem ta_AGn {p : Int32} (hp : ¬ p = -1) (h : ¬ ta_GP K nc p) : ¬ ta_AG K nc p := by
  rintro ⟨a, e, g⟩
  cases a with
  | none => exact hp e
  | some w => exact h ⟨w, e, g w rfl⟩
theorem ta_xag (A : ta_PA K N nc) (X : ta_XA K N nc xK xP) {p : Int32} {post : Int32 → Prop} (h1 : ta_AG K nc p → post 1) (h0 : ¬ ta_AG K nc p → post 0) : wpX_absentOrGood post (xmN, xmL, xmD, xmT, nI nc, xlc, xbc, xvd, xel, xkd, xke, xqd, xst, xat, xpc, xdp, xtp, xK, xP, xL, xbt, xbf, xR, xB, xQ, xS, xt, xv) p := by
  unfold wpX_absentOrGood
  refine br_c (fun e => h1 (by rw [e]; exact ta_AGm)) (fun e => ?_)
  exact ta_xgood A X (fun g => br_f (by decide) (h1 (ta_AGg g))) (fun g => br_t rfl (h0 (ta_AGn e g)))
theorem ta_yag (A : ta_PA K N nc) (Y : ta_YA K N nc yT) {p : Int32} {Z B : Prop} (h1 : ta_AG K nc p → Z) (h0 : ¬ ta_AG K nc p → B) :
    (p = (-1) → Z) ∧ (¬ p = (-1) → wpY_good (fun r => (r = 0 → B) ∧ (¬ r = 0 → Z)) (nI nc, ytop, ybc, ylc, yvd, yel, yst, yat, ypc, ydp, ytp, ykd, yke, ymN, ymL, ymD, ymT, yT, yI, yW, yL, ybt, ybf, yt, yv) p) :=
  br_c (fun e => h1 (by rw [e]; exact ta_AGm)) (fun e => ta_ygood A Y (fun g => br_f (by decide) (h1 (ta_AGg g))) (fun g => br_t rfl (h0 (ta_AGn e g))))
theorem ta_ycode (A : ta_PA K N nc) (Y : ta_YA K N nc yT) {p0 p1 p2 p3 : Int32} {post : Int32 → SY → Prop} (h0 : ¬ (ta_AG K nc p0 ∧ ta_AG K nc p1 ∧ ta_AG K nc p2 ∧ ta_SP K nc p3) → post (-1) (nI nc, ytop, ybc, ylc, yvd, yel, yst, yat, ypc, ydp, ytp, ykd, yke, ymN, ymL, ymD, ymT, yT, yI, yW, yL, ybt, ybf, yt, yv))
    (h1 : ta_AG K nc p0 → ta_AG K nc p1 → ta_AG K nc p2 → ta_SP K nc p3 → wpY_build post (nI nc, ytop, ybc, ylc, yvd, yel, yst, yat, ypc, ydp, ytp, ykd, yke, ymN, ymL, ymD, ymT, yT, yI, yW, yL, ybt, ybf, yt, yv) 5 p0 p1 p2 p3) : wpY_code post (nI nc, ytop, ybc, ylc, yvd, yel, yst, yat, ypc, ydp, ytp, ykd, yke, ymN, ymL, ymD, ymT, yT, yI, yW, yL, ybt, ybf, yt, yv) p0 p1 p2 p3 := by
  unfold wpY_code
  refine ta_yag A Y (fun g0 => ?_) (fun g => h0 (fun z => g z.1))
  unfold wY_code_13
  refine ta_yag A Y (fun g1 => ?_) (fun g => h0 (fun z => g z.2.1))
  unfold wY_code_26
  refine ta_yag A Y (fun g2 => ?_) (fun g => h0 (fun z => g z.2.2.1))
  unfold wY_code_39
  exact ta_yisStack A Y (fun g3 => br_f (by decide) (h1 g0 g1 g2 g3)) (fun g => br_t rfl (h0 (fun z => g z.2.2.2)))
theorem ta_xcode (A : ta_PA K N nc) (X : ta_XA K N nc xK xP) {p0 p1 p2 p3 : Int32} {post : Int32 → SX → Prop} (h0 : ¬ (ta_AG K nc p0 ∧ ta_AG K nc p1 ∧ ta_AG K nc p2 ∧ ta_SP K nc p3) → post (-1) (xmN, xmL, xmD, xmT, nI nc, xlc, xbc, xvd, xel, xkd, xke, xqd, xst, xat, xpc, xdp, xtp, xK, xP, xL, xbt, xbf, xR, xB, xQ, xS, xt, xv))
    (h1 : ta_AG K nc p0 → ta_AG K nc p1 → ta_AG K nc p2 → ta_SP K nc p3 → wpX_intern post (xmN, xmL, xmD, xmT, nI nc, xlc, xbc, xvd, xel, xkd, xke, xqd, xst, xat, xpc, xdp, xtp, xK, xP, xL, xbt, xbf, xR, xB, xQ, xS, xt, xv) 5 p0 p1 p2 p3) : wpX_code post (xmN, xmL, xmD, xmT, nI nc, xlc, xbc, xvd, xel, xkd, xke, xqd, xst, xat, xpc, xdp, xtp, xK, xP, xL, xbt, xbf, xR, xB, xQ, xS, xt, xv) p0 p1 p2 p3 := by
  unfold wpX_code
  refine ta_xag A X (fun g0 => br_f (by decide) ?_) (fun g => br_t rfl (h0 (fun z => g z.1)))
  refine ta_xag A X (fun g1 => br_f (by decide) ?_) (fun g => br_t rfl (h0 (fun z => g z.2.1)))
  refine ta_xag A X (fun g2 => br_f (by decide) ?_) (fun g => br_t rfl (h0 (fun z => g z.2.2.1)))
  exact ta_xisStack A X (fun g3 => br_f (by decide) (h1 g0 g1 g2 g3)) (fun g => br_t rfl (h0 (fun z => g z.2.2.2)))
/-- the arena alone as a base of terms -/
theorem ta_FN_arena (A : ta_AR K N D E nc mN xK xP yT) {Lk top : Nat} {ρ : Nat → Nat} {yT' : Nat → Int32} (ht : nc ≤ top) (hρ : ∀ i, i < nc → ρ i = i) (hT : ∀ j, j < 5 * nc → yT' j = yT j) {n : Nat} (hn : n < nc) : ta_FN K N nc Lk xK xP yT' top ρ n := by
  obtain ⟨P, H, H1, X, Y, C, _⟩ := A
  have k5 := P.2.2.2.2.2.1 n
  have S := P.2.2.2.2.2.2.2 n hn
  unfold ta_FN
  rw [hρ n hn]
  refine ⟨(X n hn).1, by omega, by rw [hT _ (by omega)]; exact (Y n hn).1, fun j hj => ?_, fun h => ?_, fun j hj h1 h2 => ?_⟩
  · have x := (X n hn).2 j (by omega)
    have y := (Y n hn).2 j (by omega)
    have pt : j < ta_pt (K n) := by
      rw [ta_pt_le (by omega) k5]
      by_cases c : K n = 5
      · rw [if_pos c]; omega
      · rw [if_neg c]; omega
    rw [if_pos pt] at x
    rw [hT _ (by omega)]
    have s := (S j (by omega)).1 hj
    cases e : N n j with
    | none =>
      rw [e] at x y
      exact Or.inl ⟨rfl, x, y⟩
    | some w =>
      rw [e] at x y
      exact Or.inr ⟨w, rfl, (s.1 w e).1, (s.1 w e).2, x, y⟩
  · obtain ⟨t, e, lt, sk⟩ := ((S (K n - 2) (by omega)).2 (by omega)).1 ⟨rfl, h⟩
    have x := (X n hn).2 (K n - 2) (by omega)
    have y := (Y n hn).2 (K n - 2) (by omega)
    have pt : K n - 2 < ta_pt (K n) := by
      rw [ta_pt_le (by omega) k5]
      by_cases c : K n = 5
      · rw [if_pos c]; omega
      · rw [if_neg c]; omega
    rw [if_pos pt, e] at x
    rw [e] at y
    rw [hT _ (by omega)]
    exact ⟨t, e, Or.inl (by omega), lt, sk, x, by rw [hρ t (by omega)]; exact y⟩
  · have y := (Y n hn).2 j hj
    rw [((S j hj).2 h1).2 h2] at y
    rw [hT _ (by omega)]
    exact y
theorem ta_FB0 (A : ta_AR K N D E nc mN xK xP yT) : ta_FB K N nc 0 xK xP yT nc (fun i => i) :=
  ⟨by omega, Nat.le_refl _, A.2.2.2.2.2.1, fun _ _ => rfl, fun n hn => by
    rcases hn with h | h
    · exact ta_FN_arena A (Nat.le_refl _) (fun _ _ => rfl) (fun _ _ => rfl) h
    · omega⟩
theorem ta_AR_keep (A : ta_AR K N D E nc mN xK xP yT) {yT' : Nat → Int32} (hT : ∀ j, j < 5 * nc → yT' j = yT j) : ta_AR K N D E nc mN xK xP yT' := by
  obtain ⟨P, H, H1, X, Y, C, r⟩ := A
  refine ⟨P, H, H1, X, ta_YA_keep Y (Nat.le_refl _) hT, fun a b ha hb h => C a b ha hb (fun j hj => ?_), r⟩
  have := h j hj
  rw [hT _ (by omega), hT _ (by omega)] at this
  exact this
end
theorem i_vc_code {k : Nat} {u : SX} {v : SY} (I : i_Rel k u v) (hk : k + 5 ≤ 2564) (v1 : Int32) (v2 : Int32) (v3 : Int32) (v4 : Int32) : wpX_code (fun r u' => wpY_code (fun r' v' => r' = r ∧ i_Rel (k + 5) u' v') v v1 v2 v3 v4) u v1 v2 v3 v4 := by
  refine ta_el (P := fun u v => wpX_code (fun r u' => wpY_code (fun r' v' => r' = r ∧ i_Rel (k + 5) u' v') v v1 v2 v3 v4) u v1 v2 v3 v4) ?_ I
  intro K N D E mN mL mD mT nc lc bc kd ke at' pc dp tp vd el st xqd ytop xK xP xL xbt xbf xR xB xQ xt xv yT yI yW yt yv A Kn Vd Pr Ma
  have P := A.1
  have X := A.2.2.2.1
  have Y := A.2.2.2.2.1
  have rel := ta_in' (k := k + 5) (xqd := xqd) (ytop := ytop) (xB := xB) (xQ := xQ) (yI := yI) (st := st) A Kn Vd Pr Ma
  refine ta_xcode P X (fun g => ?_) (fun g0 g1 g2 g3 => ?_)
  · show wpY_code _ _ _ _ _ _
    exact ta_ycode P Y (fun _ => ⟨rfl, rel⟩) (fun g0 g1 g2 g3 => absurd ⟨g0, g1, g2, g3⟩ g)
  · have G : ta_AG K nc v1 ∧ ta_AG K nc v2 ∧ ta_AG K nc v3 ∧ ta_SP K nc v4 := ⟨g0, g1, g2, g3⟩
    obtain ⟨a0, e0, w0⟩ := g0
    obtain ⟨a1, e1, w1⟩ := g1
    obtain ⟨a2, e2, w2⟩ := g2
    obtain ⟨t, e3, tn, sk⟩ := g3
    obtain ⟨r, K', N', D', E', nc', xK', xP', yT', A', Kn', Pr', GX, GY⟩ := ta_ib (k := 5) (a0 := a0) (a1 := a1) (a2 := a2) (a3 := some t) A Kn Pr (by omega) (by omega)
      (fun j hj => by
        refine ⟨?_, fun _ => rfl⟩
        rcases Nat.lt_or_ge j 1 with z | z
        · have : j = 0 := by omega
          subst this
          exact w0
        · rcases Nat.lt_or_ge j 2 with z | z
          · have : j = 1 := by omega
            subst this
            exact w1
          · have : j = 2 := by omega
            subst this
            exact w2)
      (fun _ => ⟨t, rfl, tn, sk, fun z => by omega⟩)
      (ta_j4 (fun z => by omega) (fun z => by omega) (fun z => by omega) (fun _ z => by omega))
    have f0 : ta_xa 5 a0 0 = v1 := by rw [e0]; rfl
    have f1 : ta_xa 5 a1 1 = v2 := by rw [e1]; rfl
    have f2 : ta_xa 5 a2 2 = v3 := by rw [e2]; rfl
    have f3 : ta_xa 5 (some t) 3 = v4 := by rw [e3]; rfl
    rw [f0, f1, f2, f3] at GX
    rw [← e0, ← e1, ← e2, show ta_enc (some t) = v4 from e3.symm] at GY
    refine GX _ ?_
    show wpY_code _ _ _ _ _ _
    refine ta_ycode P Y (fun z => absurd G z) (fun _ _ _ _ => ?_)
    refine GY _ ?_
    exact ⟨rfl, ta_in' A' Kn' Vd Pr' Ma⟩
theorem i_vc_fits {k : Nat} {u : SX} {v : SY} (I : i_Rel k u v) (hk : k + 5 ≤ 2564) (v1 : Int32) (v2 : Int32) (v3 : Int32) : wpX_fits (fun r u' => wpY_fits (fun r' v' => r' = r ∧ i_Rel (k + 5) u' v') v v1 v2 v3) u v1 v2 v3 := by
  refine ta_el (P := fun u v => wpX_fits (fun r u' => wpY_fits (fun r' v' => r' = r ∧ i_Rel (k + 5) u' v') v v1 v2 v3) u v1 v2 v3) ?_ I
  intro K N D E mN mL mD mT nc lc bc kd ke at' pc dp tp vd el st xqd ytop xK xP xL xbt xbf xR xB xQ xt xv yT yI yW yt yv A Kn Vd Pr Ma
  have P := A.1
  have X := A.2.2.2.1
  have Y := A.2.2.2.2.1
  have n24 := P.2.1
  have rel := ta_in' (k := k + 5) (xqd := xqd) (ytop := ytop) (xB := xB) (xQ := xQ) (yI := yI) (st := st) A Kn Vd Pr Ma
  unfold wpX_fits
  refine ta_xgood P X (fun g1 => br_f (by decide) ?_) (fun g1 => br_t rfl ?_)
  · refine ta_xgood P X (fun g2 => br_f (by decide) ?_) (fun g2 => br_t rfl ?_)
    · refine ta_xisStack P X (fun g3 => br_f (by decide) ?_) (fun g3 => br_t rfl ?_)
      · obtain ⟨w, rfl, gw⟩ := g1
        obtain ⟨w', rfl, gw'⟩ := g2
        obtain ⟨t, rfl, tn, sk⟩ := g3
        obtain ⟨r, q', xB', xQ', yT', yI', R, T, GX, GY⟩ := ta_fit P A.2.1 A.2.2.1 X Y (ta_FB0 A) (by omega) gw gw' (s := t) (Or.inl tn) xqd xB xQ yI
        have rel' := ta_in' (k := k + 5) (xqd := q') (ytop := nI nc) (xB := xB') (xQ := xQ') (yI := yI') (st := st) (ta_AR_keep A T) Kn Vd Pr Ma
        refine GX _ ?_
        rcases R with r0 | r1
        · subst r0
          refine br_t rfl ?_
          show wpY_fits _ _ _ _ _
          unfold wpY_fits
          refine ta_ygood P Y (fun _ => br_f (by decide) ?_) (fun z => absurd ⟨w, rfl, gw⟩ z)
          refine ta_ygood P Y (fun _ => br_f (by decide) ?_) (fun z => absurd ⟨w', rfl, gw'⟩ z)
          refine ta_yisStack P Y (fun _ => br_f (by decide) ?_) (fun z => absurd ⟨t, rfl, tn, sk⟩ z)
          refine GY _ ?_
          exact br_t rfl ⟨rfl, rel'⟩
        · subst r1
          refine br_f (by decide) ?_
          show wpY_fits _ _ _ _ _
          unfold wpY_fits
          refine ta_ygood P Y (fun _ => br_f (by decide) ?_) (fun z => absurd ⟨w, rfl, gw⟩ z)
          refine ta_ygood P Y (fun _ => br_f (by decide) ?_) (fun z => absurd ⟨w', rfl, gw'⟩ z)
          refine ta_yisStack P Y (fun _ => br_f (by decide) ?_) (fun z => absurd ⟨t, rfl, tn, sk⟩ z)
          refine GY _ ?_
          exact br_f (by decide) ⟨rfl, rel'⟩
      · show wpY_fits _ _ _ _ _
        unfold wpY_fits
        refine ta_ygood P Y (fun _ => br_f (by decide) ?_) (fun z => absurd g1 z)
        refine ta_ygood P Y (fun _ => br_f (by decide) ?_) (fun z => absurd g2 z)
        exact ta_yisStack P Y (fun z => absurd z g3) (fun _ => br_t rfl ⟨rfl, rel⟩)
    · show wpY_fits _ _ _ _ _
      unfold wpY_fits
      refine ta_ygood P Y (fun _ => br_f (by decide) ?_) (fun z => absurd g1 z)
      exact ta_ygood P Y (fun z => absurd z g2) (fun _ => br_t rfl ⟨rfl, rel⟩)
  · show wpY_fits _ _ _ _ _
    unfold wpY_fits
    exact ta_ygood P Y (fun z => absurd z g1) (fun _ => br_t rfl ⟨rfl, rel⟩)
end
section
/-! readers -/
theorem i_vc_info {k : Nat} {u : SX} {v : SY} (I : i_Rel k u v) (hk : k + 5 ≤ 2564) (v1 : Int32) : wpX_info (fun r => wpY_info (fun r' => r' = r ∧ i_Rel (k + 5) u v) v v1) u v1 := by
  refine ta_el (P := fun u v => wpX_info (fun r => wpY_info (fun r' => r' = r ∧ i_Rel (k + 5) u v) v v1) u v1) ?_ I
  intro K N D E mN mL mD mT nc lc bc kd ke at' pc dp tp vd el st xqd ytop xK xP xL xbt xbf xR xB xQ xt xv yT yI yW yt yv A Kn Vd Pr Ma
  have rel := ta_in' (k := k + 5) (xqd := xqd) (ytop := ytop) (xB := xB) (xQ := xQ) (yI := yI) (st := st) A Kn Vd Pr Ma
  have key : ∃ r, (∀ post : Int32 → Prop, post r → wpX_info post (nI mN, nI mL, nI mD, nI mT, nI nc, nI lc, nI bc, vd, el, nI kd, nI ke, xqd, st, nI at', nI pc, nI dp, nI tp, xK, xP, xL, xbt, xbf, xR, xB, xQ, fun _ => 0, xt, xv) v1) ∧ (∀ post : Int32 → Prop, post r → wpY_info post (nI nc, ytop, nI bc, nI lc, vd, el, st, nI at', nI pc, nI dp, nI tp, nI kd, nI ke, nI mN, nI mL, nI mD, nI mT, yT, yI, yW, xL, xbt, xbf, yt, yv) v1) := by
    rcases pk_ix v1 (n := 14) (by omega) with h | h | ⟨j, hj, rfl⟩
    · refine ⟨-1, fun post hp => br_t h hp, fun post hp => ?_⟩
      have hn : ∀ m : Nat, m < 14 → ¬ v1 = nI m := fun m hm => ta_neg h (by omega)
      exact br_f (hn 0 (by omega)) (br_f (hn 1 (by omega)) (br_f (hn 2 (by omega)) (br_f (hn 3 (by omega)) (br_f (hn 4 (by omega)) (br_f (hn 5 (by omega)) (br_f (hn 6 (by omega)) (br_f (hn 7 (by omega)) (br_f (hn 8 (by omega)) (br_f (hn 9 (by omega)) (br_f (hn 10 (by omega)) (br_f (hn 11 (by omega)) (br_f (hn 12 (by omega)) (br_f (hn 13 (by omega)) (hp))))))))))))))
    · refine ⟨-1, fun post hp => br_f (fun z => ?_) (br_t ?_ hp), fun post hp => ?_⟩
      · exact absurd (Int32.lt_of_le_of_lt h z) (by decide)
      · exact Int32.lt_of_lt_of_le (show (13 : Int32) < nI 14 from by decide) h
      · have hn : ∀ m : Nat, m < 14 → ¬ v1 = nI m := fun m hm e => by
          rw [e] at h
          exact nI_ge hm (by omega) h
        exact br_f (hn 0 (by omega)) (br_f (hn 1 (by omega)) (br_f (hn 2 (by omega)) (br_f (hn 3 (by omega)) (br_f (hn 4 (by omega)) (br_f (hn 5 (by omega)) (br_f (hn 6 (by omega)) (br_f (hn 7 (by omega)) (br_f (hn 8 (by omega)) (br_f (hn 9 (by omega)) (br_f (hn 10 (by omega)) (br_f (hn 11 (by omega)) (br_f (hn 12 (by omega)) (br_f (hn 13 (by omega)) (hp))))))))))))))
    · have : j = 0 ∨ j = 1 ∨ j = 2 ∨ j = 3 ∨ j = 4 ∨ j = 5 ∨ j = 6 ∨ j = 7 ∨ j = 8 ∨ j = 9 ∨ j = 10 ∨ j = 11 ∨ j = 12 ∨ j = 13 := by omega
      rcases this with rfl | rfl | rfl | rfl | rfl | rfl | rfl | rfl | rfl | rfl | rfl | rfl | rfl | rfl
      · exact ⟨nI nc, fun post hp => br_f (by decide) (br_f (by decide) (br_t rfl hp)), fun post hp => br_t rfl hp⟩
      · exact ⟨nI bc, fun post hp => br_f (by decide) (br_f (by decide) (br_f (by decide) (br_t rfl hp))), fun post hp => br_f (by decide) (br_t rfl hp)⟩
      · exact ⟨nI lc, fun post hp => br_f (by decide) (br_f (by decide) (br_f (by decide) (br_f (by decide) (br_t rfl hp)))), fun post hp => br_f (by decide) (br_f (by decide) (br_t rfl hp))⟩
      · exact ⟨vd, fun post hp => br_f (by decide) (br_f (by decide) (br_f (by decide) (br_f (by decide) (br_f (by decide) (br_t rfl hp))))), fun post hp => br_f (by decide) (br_f (by decide) (br_f (by decide) (br_t rfl hp)))⟩
      · exact ⟨el, fun post hp => br_f (by decide) (br_f (by decide) (br_f (by decide) (br_f (by decide) (br_f (by decide) (br_f (by decide) (br_t rfl hp)))))), fun post hp => br_f (by decide) (br_f (by decide) (br_f (by decide) (br_f (by decide) (br_t rfl hp))))⟩
      · exact ⟨st, fun post hp => br_f (by decide) (br_f (by decide) (br_f (by decide) (br_f (by decide) (br_f (by decide) (br_f (by decide) (br_f (by decide) (br_t rfl hp))))))), fun post hp => br_f (by decide) (br_f (by decide) (br_f (by decide) (br_f (by decide) (br_f (by decide) (br_t rfl hp)))))⟩
      · exact ⟨nI at', fun post hp => br_f (by decide) (br_f (by decide) (br_f (by decide) (br_f (by decide) (br_f (by decide) (br_f (by decide) (br_f (by decide) (br_f (by decide) (br_t rfl hp)))))))), fun post hp => br_f (by decide) (br_f (by decide) (br_f (by decide) (br_f (by decide) (br_f (by decide) (br_f (by decide) (br_t rfl hp))))))⟩
      · exact ⟨nI pc, fun post hp => br_f (by decide) (br_f (by decide) (br_f (by decide) (br_f (by decide) (br_f (by decide) (br_f (by decide) (br_f (by decide) (br_f (by decide) (br_f (by decide) (br_t rfl hp))))))))), fun post hp => br_f (by decide) (br_f (by decide) (br_f (by decide) (br_f (by decide) (br_f (by decide) (br_f (by decide) (br_f (by decide) (br_t rfl hp)))))))⟩
      · exact ⟨nI dp, fun post hp => br_f (by decide) (br_f (by decide) (br_f (by decide) (br_f (by decide) (br_f (by decide) (br_f (by decide) (br_f (by decide) (br_f (by decide) (br_f (by decide) (br_f (by decide) (br_t rfl hp)))))))))), fun post hp => br_f (by decide) (br_f (by decide) (br_f (by decide) (br_f (by decide) (br_f (by decide) (br_f (by decide) (br_f (by decide) (br_f (by decide) (br_t rfl hp))))))))⟩
      · exact ⟨nI tp, fun post hp => br_f (by decide) (br_f (by decide) (br_f (by decide) (br_f (by decide) (br_f (by decide) (br_f (by decide) (br_f (by decide) (br_f (by decide) (br_f (by decide) (br_f (by decide) (br_f (by decide) (br_t rfl hp))))))))))), fun post hp => br_f (by decide) (br_f (by decide) (br_f (by decide) (br_f (by decide) (br_f (by decide) (br_f (by decide) (br_f (by decide) (br_f (by decide) (br_f (by decide) (br_t rfl hp)))))))))⟩
      · exact ⟨nI mN, fun post hp => br_f (by decide) (br_f (by decide) (br_f (by decide) (br_f (by decide) (br_f (by decide) (br_f (by decide) (br_f (by decide) (br_f (by decide) (br_f (by decide) (br_f (by decide) (br_f (by decide) (br_f (by decide) (br_t rfl hp)))))))))))), fun post hp => br_f (by decide) (br_f (by decide) (br_f (by decide) (br_f (by decide) (br_f (by decide) (br_f (by decide) (br_f (by decide) (br_f (by decide) (br_f (by decide) (br_f (by decide) (br_t rfl hp))))))))))⟩
      · exact ⟨nI mL, fun post hp => br_f (by decide) (br_f (by decide) (br_f (by decide) (br_f (by decide) (br_f (by decide) (br_f (by decide) (br_f (by decide) (br_f (by decide) (br_f (by decide) (br_f (by decide) (br_f (by decide) (br_f (by decide) (br_f (by decide) (br_t rfl hp))))))))))))), fun post hp => br_f (by decide) (br_f (by decide) (br_f (by decide) (br_f (by decide) (br_f (by decide) (br_f (by decide) (br_f (by decide) (br_f (by decide) (br_f (by decide) (br_f (by decide) (br_f (by decide) (br_t rfl hp)))))))))))⟩
      · exact ⟨nI mD, fun post hp => br_f (by decide) (br_f (by decide) (br_f (by decide) (br_f (by decide) (br_f (by decide) (br_f (by decide) (br_f (by decide) (br_f (by decide) (br_f (by decide) (br_f (by decide) (br_f (by decide) (br_f (by decide) (br_f (by decide) (br_f (by decide) (br_t rfl hp)))))))))))))), fun post hp => br_f (by decide) (br_f (by decide) (br_f (by decide) (br_f (by decide) (br_f (by decide) (br_f (by decide) (br_f (by decide) (br_f (by decide) (br_f (by decide) (br_f (by decide) (br_f (by decide) (br_f (by decide) (br_t rfl hp))))))))))))⟩
      · exact ⟨nI mT, fun post hp => br_f (by decide) (br_f (by decide) (br_f (by decide) (br_f (by decide) (br_f (by decide) (br_f (by decide) (br_f (by decide) (br_f (by decide) (br_f (by decide) (br_f (by decide) (br_f (by decide) (br_f (by decide) (br_f (by decide) (br_f (by decide) (br_f (by decide) (br_t rfl hp))))))))))))))), fun post hp => br_f (by decide) (br_f (by decide) (br_f (by decide) (br_f (by decide) (br_f (by decide) (br_f (by decide) (br_f (by decide) (br_f (by decide) (br_f (by decide) (br_f (by decide) (br_f (by decide) (br_f (by decide) (br_f (by decide) (br_t rfl hp)))))))))))))⟩
  obtain ⟨r, GX, GY⟩ := key
  exact GX _ (GY _ ⟨rfl, rel⟩)
theorem i_vc_known {k : Nat} {u : SX} {v : SY} (I : i_Rel k u v) (hk : k + 5 ≤ 2564) (v1 : Int32) : wpX_known (fun r => wpY_known (fun r' => r' = r ∧ i_Rel (k + 5) u v) v v1) u v1 := by
  refine ta_el (P := fun u v => wpX_known (fun r => wpY_known (fun r' => r' = r ∧ i_Rel (k + 5) u v) v v1) u v1) ?_ I
  intro K N D E mN mL mD mT nc lc bc kd ke at' pc dp tp vd el st xqd ytop xK xP xL xbt xbf xR xB xQ xt xv yT yI yW yt yv A Kn Vd Pr Ma
  have rel := ta_in' (k := k + 5) (xqd := xqd) (ytop := ytop) (xB := xB) (xQ := xQ) (yI := yI) (st := st) A Kn Vd Pr Ma
  obtain ⟨k8, k01, kr, kc⟩ := Kn
  have key : ∃ r, (∀ post : Int32 → Prop, post r → wpX_known post (nI mN, nI mL, nI mD, nI mT, nI nc, nI lc, nI bc, vd, el, nI kd, nI ke, xqd, st, nI at', nI pc, nI dp, nI tp, xK, xP, xL, xbt, xbf, xR, xB, xQ, fun _ => 0, xt, xv) v1) ∧ (∀ post : Int32 → Prop, post r → wpY_known post (nI nc, ytop, nI bc, nI lc, vd, el, st, nI at', nI pc, nI dp, nI tp, nI kd, nI ke, nI mN, nI mL, nI mD, nI mT, yT, yI, yW, xL, xbt, xbf, yt, yv) v1) := by
    rcases Vd with ⟨e, d⟩ | ⟨e, d0, d1, d12⟩
    · refine ⟨-1, fun post hp => br_t e hp, fun post hp => ?_⟩
      rcases d with d | d | d
      · exact br_t d hp
      · exact br_f (by rw [d]; decide) (br_t d hp)
      · exact br_f (by rw [d]; decide) (br_f (by rw [d]; decide) (br_t d hp))
    · by_cases h0 : v1 < 0
      · have h0' : ¬ 0 ≤ v1 := Int32.not_le.mpr h0
        exact ⟨-1, fun post hp => br_f e (br_f h0' hp), fun post hp => br_f d0 (br_f d1 (br_f d12 (br_f h0' hp)))⟩
      · obtain ⟨n, hn, rfl⟩ := nI_of h0
        have h0' : (0 : Int32) ≤ nI n := nI_pos' hn
        have e3 : (3 : Int32) + nI kd = nI (3 + kd) := by rw [ta_l3, nI_add]
        rcases Nat.lt_or_ge n 3 with h3 | h3
        · refine ⟨xR n, fun post hp => br_f e (br_t h0' (br_f (nI_ge (b := 3) h3 (by decide)) ⟨ta_vi h3, ?_⟩)), fun post hp => br_f d0 (br_f d1 (br_f d12 (br_t h0' ?_)))⟩
          · rw [nI_clamp hn]; exact hp
          · rw [e3]
            refine br_f (nI_ge (by omega) (by omega)) ⟨ta_vi (by omega), ?_⟩
            rw [nI_clamp hn, ← kr n h3]; exact hp
        · have es : nI n - 3 = nI (n - 3) := by rw [ta_l3, pk_sub h3]
          rcases Nat.lt_or_ge (n - 3) kd with hk | hk
          · refine ⟨xP (4 * (23 + kd - (n - 3))), fun post hp => br_f e (br_t h0' (br_t (nI_le (a := 3) h3 hn) ?_)), fun post hp => br_f d0 (br_f d1 (br_f d12 (br_t h0' ?_)))⟩
            · rw [es]
              refine br_f (nI_ge hk (by omega)) ?_
              unfold wpX_knownCell
              have ei : (4 : Int32) * ((23 + nI kd) - nI (n - 3)) = nI (4 * (23 + kd - (n - 3))) := by rw [ta_l23, nI_add, pk_sub (by omega), ta_4]
              refine ⟨by rw [ei]; exact ta_vi (by omega), ?_⟩
              rw [ei, nI_clamp (by omega)]
              exact hp
            · rw [e3]
              refine br_f (nI_ge (by omega) (by omega)) ⟨ta_vi (by omega), ?_⟩
              rw [nI_clamp hn]
              have := kc (n - 3) hk
              rw [show 3 + (n - 3) = n by omega] at this
              rw [← this]
              exact hp
          · rcases k01 with c | c
            · subst c
              refine ⟨-2, fun post hp => br_f e (br_t h0' (br_t (nI_le (a := 3) h3 hn) ?_)), fun post hp => br_f d0 (br_f d1 (br_f d12 (br_t h0' ?_)))⟩
              · rw [es]; exact br_t (nI_le hk (by omega)) (br_t rfl hp)
              · rw [e3]; exact br_t (nI_le (by omega) (by omega)) (br_t rfl hp)
            · subst c
              refine ⟨-3, fun post hp => br_f e (br_t h0' (br_t (nI_le (a := 3) h3 hn) ?_)), fun post hp => br_f d0 (br_f d1 (br_f d12 (br_t h0' ?_)))⟩
              · rw [es]; exact br_t (nI_le hk (by omega)) (br_f (by decide) hp)
              · rw [e3]; exact br_t (nI_le (by omega) (by omega)) (br_f (by decide) hp)
  obtain ⟨r, GX, GY⟩ := key
  exact GX _ (GY _ ⟨rfl, rel⟩)
theorem i_vc_line {k : Nat} {u : SX} {v : SY} (I : i_Rel k u v) (hk : k + 5 ≤ 2564) (v1 : Int32) (v2 : Int32) : wpX_line (fun r => wpY_line (fun r' => r' = r ∧ i_Rel (k + 5) u v) v v1 v2) u v1 v2 := by
  refine ta_el (P := fun u v => wpX_line (fun r => wpY_line (fun r' => r' = r ∧ i_Rel (k + 5) u v) v v1 v2) u v1 v2) ?_ I
  intro K N D E mN mL mD mT nc lc bc kd ke at' pc dp tp vd el st xqd ytop xK xP xL xbt xbf xR xB xQ xt xv yT yI yW yt yv A Kn Vd Pr Ma
  have rel := ta_in' (k := k + 5) (xqd := xqd) (ytop := ytop) (xB := xB) (xQ := xQ) (yI := yI) (st := st) A Kn Vd Pr Ma
  obtain ⟨b8, l1, l40, _⟩ := Pr
  unfold wpX_line wpY_line
  refine br_c (fun h => br_t h ⟨rfl, rel⟩) (fun h => br_c (fun h2 => br_f h (br_t h2 ⟨rfl, rel⟩)) (fun h2 => br_c (fun h3 => br_f h (br_f h2 (br_t h3 ⟨rfl, rel⟩))) (fun h3 => br_c (fun h4 => ?_) (fun h4 => br_f h (br_f h2 (br_f h3 (br_f h4 ⟨rfl, rel⟩)))))))
  obtain ⟨i, hi, rfl⟩ := nI_of h
  obtain ⟨j, hj, rfl⟩ := nI_of2 (n := 3) (by decide) h3 h4
  have hi2 : i < lc := by
    rcases Nat.lt_or_ge i lc with z | z
    · exact z
    · exact absurd (nI_le z (by omega)) h2
  have vi : vp_in (4 * nI i + nI j) 160 := by rw [ta_4, nI_add]; exact ta_vi (by omega)
  exact ⟨vi, br_f h (br_f h2 (br_f h3 (br_t h4 ⟨vi, rfl, rel⟩)))⟩
theorem i_vc_block {k : Nat} {u : SX} {v : SY} (I : i_Rel k u v) (hk : k + 5 ≤ 2564) (v1 : Int32) (v2 : Int32) : wpX_block (fun r => wpY_block (fun r' => r' = r ∧ i_Rel (k + 5) u v) v v1 v2) u v1 v2 := by
  refine ta_el (P := fun u v => wpX_block (fun r => wpY_block (fun r' => r' = r ∧ i_Rel (k + 5) u v) v v1 v2) u v1 v2) ?_ I
  intro K N D E mN mL mD mT nc lc bc kd ke at' pc dp tp vd el st xqd ytop xK xP xL xbt xbf xR xB xQ xt xv yT yI yW yt yv A Kn Vd Pr Ma
  have rel := ta_in' (k := k + 5) (xqd := xqd) (ytop := ytop) (xB := xB) (xQ := xQ) (yI := yI) (st := st) A Kn Vd Pr Ma
  obtain ⟨b8, l1, l40, _⟩ := Pr
  unfold wpX_block wpY_block
  refine br_c (fun h => br_t h ⟨rfl, rel⟩) (fun h => br_c (fun h2 => br_f h (br_t h2 ⟨rfl, rel⟩)) (fun h2 => br_c (fun h3 => br_f h (br_f h2 (br_t h3 ⟨rfl, rel⟩))) (fun h3 => br_c (fun h4 => ?_) (fun h4 => br_f h (br_f h2 (br_f h3 (br_f h4 ⟨rfl, rel⟩)))))))
  obtain ⟨i, hi, rfl⟩ := nI_of h
  have hi2 : i < bc := by
    rcases Nat.lt_or_ge i bc with z | z
    · exact z
    · exact absurd (nI_le z (by omega)) h2
  have vi : vp_in (nI i) 8 := ta_vi (by omega)
  refine br_c (fun c0 => ⟨vi, br_f h (br_f h2 (br_f h3 (br_t h4 (br_t c0 ⟨vi, rfl, rel⟩))))⟩) (fun c0 => br_c (fun c1 => ⟨vi, br_f h (br_f h2 (br_f h3 (br_t h4 (br_f c0 (br_t c1 ⟨vi, rfl, rel⟩)))))⟩) (fun c1 => ?_))
  unfold wpX_blockEnd
  refine br_c (fun c => ?_) (fun c => ?_)
  · exact br_f h (br_f h2 (br_f h3 (br_t h4 (br_f c0 (br_f c1 (br_t c ⟨rfl, rel⟩))))))
  · have vi1 : vp_in (nI i + 1) 8 := by
      rw [nI_1]
      have : ¬ bc ≤ i + 1 := fun z => c (by rw [nI_1]; exact nI_le z (by omega))
      exact ta_vi (by omega)
    exact ⟨vi1, br_f h (br_f h2 (br_f h3 (br_t h4 (br_f c0 (br_f c1 (br_f c ⟨vi1, rfl, rel⟩))))))⟩
theorem ta_pt3 {n : Nat} (h : n < 3) : ta_pt n = 0 := by unfold ta_pt; rw [if_pos h]
theorem i_vc_node {k : Nat} {u : SX} {v : SY} (I : i_Rel k u v) (hk : k + 5 ≤ 2564) (v1 : Int32) (v2 : Int32) : wpX_node (fun r => wpY_node (fun r' => r' = r ∧ i_Rel (k + 5) u v) v v1 v2) u v1 v2 := by
  refine ta_el (P := fun u v => wpX_node (fun r => wpY_node (fun r' => r' = r ∧ i_Rel (k + 5) u v) v v1 v2) u v1 v2) ?_ I
  intro K N D E mN mL mD mT nc lc bc kd ke at' pc dp tp vd el st xqd ytop xK xP xL xbt xbf xR xB xQ xt xv yT yI yW yt yv A Kn Vd Pr Ma
  have rel := ta_in' (k := k + 5) (xqd := xqd) (ytop := ytop) (xB := xB) (xQ := xQ) (yI := yI) (st := st) A Kn Vd Pr Ma
  have P := A.1
  have X := A.2.2.2.1
  have Y := A.2.2.2.2.1
  have n24 := P.2.1
  unfold wpX_node wpY_node
  refine br_c (fun h => br_t h ⟨rfl, rel⟩) (fun h => br_c (fun h2 => br_f h (br_t h2 ⟨rfl, rel⟩)) (fun h2 => br_c (fun h3 => ?_) (fun h3 => br_f h (br_f h2 (br_t (Int32.not_le.mp h3) ⟨rfl, rel⟩)))))
  obtain ⟨i, hi, rfl⟩ := nI_of h
  obtain ⟨j, hj, rfl⟩ := nI_of (Int32.not_lt.mpr h3)
  have hi2 : i < nc := by
    rcases Nat.lt_or_ge i nc with z | z
    · exact z
    · exact absurd (nI_le z (by omega)) h2
  have k5 := P.2.2.2.2.2.1 i
  have x := X i hi2
  have y := Y i hi2
  have j0 : ¬ nI j < 0 := nI_pos hj
  -- Y's answer at slot j
  have yfin : ∀ r : Int32, (4 < j → r = -1) → (j = 0 → r = nI (K i)) → (∀ m, j = m + 1 → m < 4 → r = ta_enc (N i m)) →
      ((nI i < 0 → (-1 : Int32) = r ∧ i_Rel (k + 5) (nI mN, nI mL, nI mD, nI mT, nI nc, nI lc, nI bc, vd, el, nI kd, nI ke, xqd, st, nI at', nI pc, nI dp, nI tp, xK, xP, xL, xbt, xbf, xR, xB, xQ, fun _ => 0, xt, xv) (nI nc, ytop, nI bc, nI lc, vd, el, st, nI at', nI pc, nI dp, nI tp, nI kd, nI ke, nI mN, nI mL, nI mD, nI mT, yT, yI, yW, xL, xbt, xbf, yt, yv)) ∧ (¬ nI i < 0 → ((nI nc ≤ nI i → (-1 : Int32) = r ∧ i_Rel (k + 5) (nI mN, nI mL, nI mD, nI mT, nI nc, nI lc, nI bc, vd, el, nI kd, nI ke, xqd, st, nI at', nI pc, nI dp, nI tp, xK, xP, xL, xbt, xbf, xR, xB, xQ, fun _ => 0, xt, xv) (nI nc, ytop, nI bc, nI lc, vd, el, st, nI at', nI pc, nI dp, nI tp, nI kd, nI ke, nI mN, nI mL, nI mD, nI mT, yT, yI, yW, xL, xbt, xbf, yt, yv)) ∧ (¬ nI nc ≤ nI i → ((nI j < 0 → (-1 : Int32) = r ∧ i_Rel (k + 5) (nI mN, nI mL, nI mD, nI mT, nI nc, nI lc, nI bc, vd, el, nI kd, nI ke, xqd, st, nI at', nI pc, nI dp, nI tp, xK, xP, xL, xbt, xbf, xR, xB, xQ, fun _ => 0, xt, xv) (nI nc, ytop, nI bc, nI lc, vd, el, st, nI at', nI pc, nI dp, nI tp, nI kd, nI ke, nI mN, nI mL, nI mD, nI mT, yT, yI, yW, xL, xbt, xbf, yt, yv)) ∧ (¬ nI j < 0 → ((nI j ≤ 4 → (vp_in ((5 * nI i) + nI j) 640 ∧ (yT ((5 * nI i) + nI j).toNatClampNeg = r ∧ i_Rel (k + 5) (nI mN, nI mL, nI mD, nI mT, nI nc, nI lc, nI bc, vd, el, nI kd, nI ke, xqd, st, nI at', nI pc, nI dp, nI tp, xK, xP, xL, xbt, xbf, xR, xB, xQ, fun _ => 0, xt, xv) (nI nc, ytop, nI bc, nI lc, vd, el, st, nI at', nI pc, nI dp, nI tp, nI kd, nI ke, nI mN, nI mL, nI mD, nI mT, yT, yI, yW, xL, xbt, xbf, yt, yv)))) ∧ (¬ nI j ≤ 4 → (-1 : Int32) = r ∧ i_Rel (k + 5) (nI mN, nI mL, nI mD, nI mT, nI nc, nI lc, nI bc, vd, el, nI kd, nI ke, xqd, st, nI at', nI pc, nI dp, nI tp, xK, xP, xL, xbt, xbf, xR, xB, xQ, fun _ => 0, xt, xv) (nI nc, ytop, nI bc, nI lc, vd, el, st, nI at', nI pc, nI dp, nI tp, nI kd, nI ke, nI mN, nI mL, nI mD, nI mT, yT, yI, yW, xL, xbt, xbf, yt, yv))))))))) := by
    intro r r4 r0 rs
    refine br_f h (br_f h2 (br_f j0 (pk_le j 4 (fun c => ?_) (fun c => ⟨(r4 c).symm, rel⟩))))
    rw [ta_5, nI_add, nI_clamp (by omega)]
    refine ⟨ta_vi (by omega), ?_, rel⟩
    rcases Nat.eq_zero_or_pos j with z | z
    · rw [r0 z, z]; exact y.1
    · rw [rs (j - 1) (by omega) (by omega), ← y.2 (j - 1) (by omega)]
      exact congrArg yT (by omega)
  have vi : vp_in (nI i) 32 := ta_vi (by omega)
  have e57 : ∀ m : Nat, m ≤ 4 → 1 ≤ j → (ta_pt (K i) = m) → wX_node_57 (fun r => wpY_node (fun r' => r' = r ∧ i_Rel (k + 5) (nI mN, nI mL, nI mD, nI mT, nI nc, nI lc, nI bc, vd, el, nI kd, nI ke, xqd, st, nI at', nI pc, nI dp, nI tp, xK, xP, xL, xbt, xbf, xR, xB, xQ, fun _ => 0, xt, xv) (nI nc, ytop, nI bc, nI lc, vd, el, st, nI at', nI pc, nI dp, nI tp, nI kd, nI ke, nI mN, nI mL, nI mD, nI mT, yT, yI, yW, xL, xbt, xbf, yt, yv)) (nI nc, ytop, nI bc, nI lc, vd, el, st, nI at', nI pc, nI dp, nI tp, nI kd, nI ke, nI mN, nI mL, nI mD, nI mT, yT, yI, yW, xL, xbt, xbf, yt, yv) (nI i) (nI j)) (nI i) (nI j) (nI m) (nI mN) (nI mL) (nI mD) (nI mT) (nI nc) (nI lc) (nI bc) vd el (nI kd) (nI ke) xqd st (nI at') (nI pc) (nI dp) (nI tp) xK xP xL xbt xbf xR xB xQ (fun _ => 0) xt xv := by
    intro m m4 j1 pm
    unfold wX_node_57
    refine pk_le j m (fun c => ?_) (fun c => ?_)
    · have ei : (4 * nI i + nI j) - 1 = nI (4 * i + (j - 1)) := by rw [ta_4, nI_add, show 4 * i + j = 4 * i + (j - 1) + 1 by omega, nI_pred]
      have xs := x.2 (j - 1) (by omega)
      rw [pm, if_pos (by omega)] at xs
      refine ⟨by rw [ei]; exact ta_vi (by omega), ?_⟩
      rw [ei, nI_clamp (by omega), xs]
      exact yfin _ (fun z => by omega) (fun z => by omega) (fun m' e _ => by rw [show j - 1 = m' by omega])
    · refine yfin _ (fun _ => rfl) (fun z => by omega) (fun m' e hm' => ?_)
      have : N i m' = none := by
        rcases Nat.lt_or_ge (K i) 3 with z | z
        · exact ((P.2.2.2.2.2.2.2 i hi2 m' hm').2 (by omega)).2 (by omega)
        · exact ta_slot_none P hi2 z hm' (by omega)
      rw [this]; rfl
  refine pk_eq j 0 (fun c => ⟨vi, ?_⟩) (fun c => ⟨vi, ?_⟩)
  · rw [nI_clamp hi, x.1]
    exact yfin _ (fun z => by omega) (fun _ => rfl) (fun m e _ => by omega)
  · rw [nI_clamp hi, x.1]
    refine pk_lt (K i) 3 (fun z => e57 0 (by omega) (by omega) (ta_pt3 z)) (fun z => ⟨vi, pk_eq (K i) 5 (fun z5 => ?_) (fun z5 => ?_)⟩)
    · exact e57 4 (by omega) (by omega) (by rw [ta_pt_le z k5, if_pos z5])
    · exact e57 2 (by omega) (by omega) (by rw [ta_pt_le z k5, if_neg z5])
end
section
/-! tag, value, the machine's reset, boot, label -/
def ta_z3 (f : Nat → Int32) : Nat → Int32 := upd (upd (upd f 0 0) 1 0) 2 0
theorem ta_z3r (f : Nat → Int32) : ∀ r, r < 3 → ta_z3 f r = nI 0 := by
  intro r hr
  unfold ta_z3
  rcases Nat.lt_or_ge r 2 with z | z
  · rw [pk_un (by omega)]
    rcases Nat.lt_or_ge r 1 with z1 | z1
    · have : r = 0 := by omega
      rw [this, pk_un (by omega), pk_us]; rfl
    · have : r = 1 := by omega
      rw [this, pk_us]; rfl
  · have : r = 2 := by omega
    rw [this, pk_us]; rfl
section
variable {xmN xmL xmD xmT xnc xlc xbc xvd xel xkd xke xqd xst xat xpc xdp xtp : Int32} {xK xP xL xbt xbf xR xB xQ xS xt xv : Nat → Int32}
variable {ync ytop ybc ylc yvd yel yst yat ypc ydp ytp ykd yke ymN ymL ymD ymT : Int32} {yT yI yW yL ybt ybf yt yv : Nat → Int32}
theorem ta_xput {i : Nat} (hi : i < 51) {p1 p2 : Int32} {post : Int32 → SX → Prop} (hp : post 1 (xmN, xmL, xmD, xmT, xnc, xlc, xbc, xvd, xel, xkd, xke, xqd, xst, xat, xpc, xdp, xtp, xK, xP, xL, xbt, xbf, xR, xB, xQ, xS, upd xt i p1, upd xv i p2)) : wpX_put post (xmN, xmL, xmD, xmT, xnc, xlc, xbc, xvd, xel, xkd, xke, xqd, xst, xat, xpc, xdp, xtp, xK, xP, xL, xbt, xbf, xR, xB, xQ, xS, xt, xv) (nI i) p1 p2 := by
  unfold wpX_put
  refine ⟨ta_vi hi, nm_r (e' := upd xt i p1) (by rw [nI_clamp (by omega)]) ⟨ta_vi hi, nm_r (e' := upd xv i p2) (by rw [nI_clamp (by omega)]) hp⟩⟩
theorem ta_yset {i : Nat} (hi : i < 51) {p1 p2 : Int32} {post : SY → Prop} (hp : post (ync, ytop, ybc, ylc, yvd, yel, yst, yat, ypc, ydp, ytp, ykd, yke, ymN, ymL, ymD, ymT, yT, yI, yW, yL, ybt, ybf, upd yt i p1, upd yv i p2)) : wpY_set post (ync, ytop, ybc, ylc, yvd, yel, yst, yat, ypc, ydp, ytp, ykd, yke, ymN, ymL, ymD, ymT, yT, yI, yW, yL, ybt, ybf, yt, yv) (nI i) p1 p2 := by
  unfold wpY_set
  refine ⟨ta_vi hi, nm_r (e' := upd yt i p1) (by rw [nI_clamp (by omega)]) ⟨ta_vi hi, nm_r (e' := upd yv i p2) (by rw [nI_clamp (by omega)]) hp⟩⟩
theorem ta_xreset {post : SX → Prop} (hp : post (xmN, xmL, xmD, xmT, xnc, xlc, xbc, xvd, xel, xkd, xke, xqd, 0, 0, 0, 0, 0, xK, xP, xL, xbt, xbf, xR, xB, xQ, xS, ta_z3 xt, ta_z3 xv)) : wpX_resetMachine post (xmN, xmL, xmD, xmT, xnc, xlc, xbc, xvd, xel, xkd, xke, xqd, xst, xat, xpc, xdp, xtp, xK, xP, xL, xbt, xbf, xR, xB, xQ, xS, xt, xv) := by
  refine ⟨0 + 1 + 1 + 1 + 1, ?_⟩
  rw [wX_resetMachine_27]
  refine br_f (by decide) (ta_xput (i := 0) (by omega) (nm_r (e' := nI 1) rfl ?_))
  rw [wX_resetMachine_27]
  refine br_f (by decide) (ta_xput (i := 1) (by omega) (nm_r (e' := nI 2) rfl ?_))
  rw [wX_resetMachine_27]
  refine br_f (by decide) (ta_xput (i := 2) (by omega) (nm_r (e' := nI 3) rfl ?_))
  rw [wX_resetMachine_27]
  exact br_t (by decide) hp
theorem ta_yreset {post : SY → Prop} (hp : post (ync, ytop, ybc, ylc, yvd, yel, 0, 0, 0, 0, 0, ykd, yke, ymN, ymL, ymD, ymT, yT, yI, yW, yL, ybt, ybf, ta_z3 yt, ta_z3 yv)) : wpY_clear post (ync, ytop, ybc, ylc, yvd, yel, yst, yat, ypc, ydp, ytp, ykd, yke, ymN, ymL, ymD, ymT, yT, yI, yW, yL, ybt, ybf, yt, yv) := by
  refine ⟨0 + 1 + 1 + 1 + 1, ?_⟩
  rw [wY_clear_27]
  refine br_f (by decide) (ta_yset (i := 0) (by omega) (nm_r (e' := nI 1) rfl ?_))
  rw [wY_clear_27]
  refine br_f (by decide) (ta_yset (i := 1) (by omega) (nm_r (e' := nI 2) rfl ?_))
  rw [wY_clear_27]
  refine br_f (by decide) (ta_yset (i := 2) (by omega) (nm_r (e' := nI 3) rfl ?_))
  rw [wY_clear_27]
  exact br_t (by decide) hp
theorem ta_xchanged {post : SX → Prop} (hp : post (xmN, xmL, xmD, xmT, xnc, xlc, xbc, 0, -1, xkd, xke, xqd, 0, 0, 0, 0, 0, xK, xP, xL, xbt, xbf, xR, xB, xQ, xS, ta_z3 xt, ta_z3 xv)) : wpX_programChanged post (xmN, xmL, xmD, xmT, xnc, xlc, xbc, xvd, xel, xkd, xke, xqd, xst, xat, xpc, xdp, xtp, xK, xP, xL, xbt, xbf, xR, xB, xQ, xS, xt, xv) := by
  unfold wpX_programChanged
  exact ta_xreset hp
theorem ta_ychanged {post : SY → Prop} (hp : post (ync, ytop, ybc, ylc, 0, -1, 0, 0, 0, 0, 0, ykd, yke, ymN, ymL, ymD, ymT, yT, yI, yW, yL, ybt, ybf, ta_z3 yt, ta_z3 yv)) : wpY_changed post (ync, ytop, ybc, ylc, yvd, yel, yst, yat, ypc, ydp, ytp, ykd, yke, ymN, ymL, ymD, ymT, yT, yI, yW, yL, ybt, ybf, yt, yv) := by
  unfold wpY_changed
  exact ta_yreset hp
theorem ta_CO0 {bc tp : Nat} {t v : Int32} (h2 : t ≠ nI 2) (h3 : t ≠ nI 3) : ta_CO bc tp t v := ⟨fun e => absurd e h2, fun e => absurd e h3⟩
theorem ta_MA0 {mD mT bc lc : Nat} (h1 : mD ≤ 24) (h2 : mT ≤ 12) : ta_MA mD mT bc lc 0 0 0 0 (ta_z3 xt) (ta_z3 xv) (ta_z3 yt) (ta_z3 yv) := by
  refine ⟨h1, h2, by omega, by omega, by omega, by omega, fun r hr => ?_, fun j hj => by omega, fun i hi => by omega⟩
  rw [ta_z3r _ r hr, ta_z3r _ r hr, ta_z3r _ r hr, ta_z3r _ r hr]
  exact ⟨rfl, rfl, ta_CO0 (by decide) (by decide)⟩
theorem ta_cell {mD mT bc lc dp tp at' pc : Nat} (M : ta_MA mD mT bc lc dp tp at' pc xt xv yt yv) (p0 p1 : Int32) :
    ∃ c c' : Int32, ((c = -1 ∧ c' = -1) ∨ ∃ i i' : Nat, i < 51 ∧ i' < 51 ∧ c = nI i ∧ c' = nI i' ∧ yt i' = xt i ∧ yv i' = xv i) ∧
      (∀ {xmN xmL xmD xmT xnc xlc xbc xvd xel xkd xke xqd xst xat xpc : Int32} {xK xP xL xbt xbf xR xB xQ xS xt xv : Nat → Int32} (post : Int32 → Prop), post c → wpX_cellAt post (xmN, xmL, xmD, xmT, xnc, xlc, xbc, xvd, xel, xkd, xke, xqd, xst, xat, xpc, nI dp, nI tp, xK, xP, xL, xbt, xbf, xR, xB, xQ, xS, xt, xv) p0 p1) ∧ (∀ {ync ytop ybc ylc yvd yel yst yat ypc ykd yke ymN ymL ymD ymT : Int32} {yT yI yW yL ybt ybf yt yv : Nat → Int32} (post : Int32 → Prop), post c' → wpY_place post (ync, ytop, ybc, ylc, yvd, yel, yst, yat, ypc, nI dp, nI tp, ykd, yke, ymN, ymL, ymD, ymT, yT, yI, yW, yL, ybt, ybf, yt, yv) p0 p1) := by
  obtain ⟨d24, t12, dd, tt, _, _, mr, ms, mh⟩ := M
  have e2 : (2 : Int32) * nI tp = nI (2 * tp) := by rw [ta_l2, pk_mul]
  by_cases hn : p1 < 0
  · refine ⟨-1, -1, Or.inl ⟨rfl, rfl⟩, fun post hp => br_f (Int32.not_le.mpr hn) hp, fun post hp => ?_⟩
    unfold wpY_place wY_place_15 wY_place_36
    exact br_c (fun _ => br_t hn (br_c (fun _ => br_t hn (br_c (fun _ => br_t hn hp) (fun _ => hp))) (fun _ => br_c (fun _ => br_t hn hp) (fun _ => hp)))) (fun _ => br_c (fun _ => br_t hn (br_c (fun _ => br_t hn hp) (fun _ => hp))) (fun _ => br_c (fun _ => br_t hn hp) (fun _ => hp)))
  · obtain ⟨n, h31, rfl⟩ := nI_of hn
    have hn' : (0 : Int32) ≤ nI n := nI_pos' h31
    by_cases c0 : p0 = 0
    · subst c0
      rcases Nat.lt_or_ge n 3 with h3 | h3
      · refine ⟨nI n, nI n, Or.inr ⟨n, n, by omega, by omega, rfl, rfl, (mr n h3).1, (mr n h3).2.1⟩, fun post hp => br_t hn' (br_t rfl (br_f (nI_ge (b := 3) h3 (by decide)) hp)), fun post hp => br_t rfl (br_f hn (br_f (nI_ge (b := 3) h3 (by decide)) hp))⟩
      · refine ⟨-1, -1, Or.inl ⟨rfl, rfl⟩, fun post hp => br_t hn' (br_t rfl (br_t (nI_le (a := 3) h3 h31) ?_)), fun post hp => br_t rfl (br_f hn (br_t (nI_le (a := 3) h3 h31) ?_))⟩
        · exact br_f (by decide) (br_f (by decide) hp)
        · exact br_f (by decide) (br_f (by decide) hp)
    · by_cases c1 : p0 = 1
      · subst c1
        rcases Nat.lt_or_ge n dp with hd | hd
        · refine ⟨nI (2 + dp - n), nI (3 + n), Or.inr ⟨2 + dp - n, 3 + n, by omega, by omega, rfl, rfl, (ms n hd).1, (ms n hd).2.1⟩, fun post hp => br_t hn' (br_f (by decide) (br_t rfl (br_f (nI_ge hd (by omega)) ?_))), fun post hp => br_f (by decide) (br_t rfl (br_f hn (br_f (nI_ge hd (by omega)) ?_)))⟩
          · rw [ta_l2, nI_add, pk_sub (by omega)]; exact hp
          · rw [ta_l3, nI_add]; exact hp
        · refine ⟨-1, -1, Or.inl ⟨rfl, rfl⟩, fun post hp => br_t hn' (br_f (by decide) (br_t rfl (br_t (nI_le hd h31) ?_))), fun post hp => br_f (by decide) (br_t rfl (br_f hn (br_t (nI_le hd h31) ?_)))⟩
          · exact br_f (by decide) hp
          · exact br_f (by decide) hp
      · by_cases c2 : p0 = 2
        · subst c2
          rcases Nat.lt_or_ge n (2 * tp) with hd | hd
          · refine ⟨nI (27 + n), nI (27 + n), Or.inr ⟨27 + n, 27 + n, by omega, by omega, rfl, rfl, (mh n hd).1, (mh n hd).2.1⟩, fun post hp => br_t hn' (br_f (by decide) (br_f (by decide) (br_t rfl ?_))), fun post hp => br_f (by decide) (br_f (by decide) (br_t rfl (br_f hn ?_)))⟩
            · rw [e2]
              refine br_f (nI_ge hd (by omega)) ?_
              rw [ta_l27, nI_add]; exact hp
            · rw [e2]
              refine br_f (nI_ge hd (by omega)) ?_
              rw [ta_l27, nI_add]; exact hp
          · refine ⟨-1, -1, Or.inl ⟨rfl, rfl⟩, fun post hp => br_t hn' (br_f (by decide) (br_f (by decide) (br_t rfl ?_))), fun post hp => br_f (by decide) (br_f (by decide) (br_t rfl (br_f hn ?_)))⟩
            · rw [e2]; exact br_t (nI_le hd h31) hp
            · rw [e2]; exact br_t (nI_le hd h31) hp
        · exact ⟨-1, -1, Or.inl ⟨rfl, rfl⟩, fun post hp => br_t hn' (br_f c0 (br_f c1 (br_f c2 hp))), fun post hp => br_f c0 (br_f c1 (br_f c2 hp))⟩
end
theorem i_vc_tag {k : Nat} {u : SX} {v : SY} (I : i_Rel k u v) (hk : k + 5 ≤ 2564) (v1 : Int32) (v2 : Int32) : wpX_tag (fun r => wpY_tag (fun r' => r' = r ∧ i_Rel (k + 5) u v) v v1 v2) u v1 v2 := by
  refine ta_el (P := fun u v => wpX_tag (fun r => wpY_tag (fun r' => r' = r ∧ i_Rel (k + 5) u v) v v1 v2) u v1 v2) ?_ I
  intro K N D E mN mL mD mT nc lc bc kd ke at' pc dp tp vd el st xqd ytop xK xP xL xbt xbf xR xB xQ xt xv yT yI yW yt yv A Kn Vd Pr Ma
  have rel := ta_in' (k := k + 5) (xqd := xqd) (ytop := ytop) (xB := xB) (xQ := xQ) (yI := yI) (st := st) A Kn Vd Pr Ma
  obtain ⟨c, c', R, GX, GY⟩ := ta_cell Ma v1 v2
  unfold wpX_tag
  refine GX _ ?_
  rcases R with ⟨rfl, rfl⟩ | ⟨i, i', hi, hi', rfl, rfl, et, _⟩
  · refine br_f (by decide) ?_
    unfold wpY_tag
    exact GY _ (br_f (by decide) ⟨rfl, rel⟩)
  · refine br_t (nI_pos' (by omega)) ⟨ta_vi hi, ?_⟩
    unfold wpY_tag
    refine GY _ (br_t (nI_pos' (by omega)) ⟨ta_vi hi', ?_, rel⟩)
    rw [nI_clamp (by omega), nI_clamp (by omega)]
    exact et
theorem i_vc_value {k : Nat} {u : SX} {v : SY} (I : i_Rel k u v) (hk : k + 5 ≤ 2564) (v1 : Int32) (v2 : Int32) : wpX_value (fun r => wpY_value (fun r' => r' = r ∧ i_Rel (k + 5) u v) v v1 v2) u v1 v2 := by
  refine ta_el (P := fun u v => wpX_value (fun r => wpY_value (fun r' => r' = r ∧ i_Rel (k + 5) u v) v v1 v2) u v1 v2) ?_ I
  intro K N D E mN mL mD mT nc lc bc kd ke at' pc dp tp vd el st xqd ytop xK xP xL xbt xbf xR xB xQ xt xv yT yI yW yt yv A Kn Vd Pr Ma
  have rel := ta_in' (k := k + 5) (xqd := xqd) (ytop := ytop) (xB := xB) (xQ := xQ) (yI := yI) (st := st) A Kn Vd Pr Ma
  obtain ⟨c, c', R, GX, GY⟩ := ta_cell Ma v1 v2
  unfold wpX_value
  refine GX _ ?_
  rcases R with ⟨rfl, rfl⟩ | ⟨i, i', hi, hi', rfl, rfl, _, et⟩
  · refine br_f (by decide) ?_
    unfold wpY_value
    exact GY _ (br_f (by decide) ⟨rfl, rel⟩)
  · refine br_t (nI_pos' (by omega)) ⟨ta_vi hi, ?_⟩
    unfold wpY_value
    refine GY _ (br_t (nI_pos' (by omega)) ⟨ta_vi hi', ?_, rel⟩)
    rw [nI_clamp (by omega), nI_clamp (by omega)]
    exact et
theorem i_vc_boot {k : Nat} {u : SX} {v : SY} (I : i_Rel k u v) (hk : k + 5 ≤ 2564) (v1 : Int32) : wpX_boot (fun r u' => wpY_boot (fun r' v' => r' = r ∧ i_Rel (k + 5) u' v') v v1) u v1 := by
  refine ta_el (P := fun u v => wpX_boot (fun r u' => wpY_boot (fun r' v' => r' = r ∧ i_Rel (k + 5) u' v') v v1) u v1) ?_ I
  intro K N D E mN mL mD mT nc lc bc kd ke at' pc dp tp vd el st xqd ytop xK xP xL xbt xbf xR xB xQ xt xv yT yI yW yt yv A Kn Vd Pr Ma
  have rel := ta_in' (k := k + 5) (xqd := xqd) (ytop := ytop) (xB := xB) (xQ := xQ) (yI := yI) (st := st) A Kn Vd Pr Ma
  unfold wpX_boot
  refine br_c (fun h => br_t h ⟨rfl, rel⟩) (fun h => ?_)
  refine ta_xreset ?_
  refine ta_xput (i := 0) (by omega) ?_
  show wpY_boot _ _ _
  unfold wpY_boot
  refine br_f h ?_
  refine ta_yreset ?_
  refine ta_yset (i := 0) (by omega) ?_
  refine ⟨rfl, ?_⟩
  refine ta_in' (at' := 0) (pc := 0) (dp := 0) (tp := 0) (st := 1) A Kn Vd Pr ?_
  obtain ⟨h1, h2, _⟩ := Ma
  refine ⟨h1, h2, by omega, by omega, by omega, by omega, fun r hr => ?_, fun j hj => by omega, fun i hi => by omega⟩
  by_cases c : r = 0
  · subst c
    rw [pk_us, pk_us, pk_us, pk_us]
    exact ⟨rfl, rfl, ta_CO0 (by decide) (by decide)⟩
  · rw [pk_un c, pk_un c, pk_un c, pk_un c, ta_z3r _ r hr, ta_z3r _ r hr, ta_z3r _ r hr, ta_z3r _ r hr]
    exact ⟨rfl, rfl, ta_CO0 (by decide) (by decide)⟩
theorem i_vc_label {k : Nat} {u : SX} {v : SY} (I : i_Rel k u v) (hk : k + 5 ≤ 2564) (v1 : Int32) : wpX_label (fun r u' => wpY_label (fun r' v' => r' = r ∧ i_Rel (k + 5) u' v') v v1) u v1 := by
  refine ta_el (P := fun u v => wpX_label (fun r u' => wpY_label (fun r' v' => r' = r ∧ i_Rel (k + 5) u' v') v v1) u v1) ?_ I
  intro K N D E mN mL mD mT nc lc bc kd ke at' pc dp tp vd el st xqd ytop xK xP xL xbt xbf xR xB xQ xt xv yT yI yW yt yv A Kn Vd Pr Ma
  have rel := ta_in' (k := k + 5) (xqd := xqd) (ytop := ytop) (xB := xB) (xQ := xQ) (yI := yI) (st := st) A Kn Vd Pr Ma
  have P := A.1
  have X := A.2.2.2.1
  have Y := A.2.2.2.2.1
  have n24 := P.2.1
  obtain ⟨b8, l1, l40, pt, pf, pl⟩ := Pr
  unfold wpX_label
  have ybad : ¬ ta_NP K nc v1 5 → wpY_label (fun r' v' => r' = -1 ∧ i_Rel (k + 5) (nI mN, nI mL, nI mD, nI mT, nI nc, nI lc, nI bc, vd, el, nI kd, nI ke, xqd, st, nI at', nI pc, nI dp, nI tp, xK, xP, xL, xbt, xbf, xR, xB, xQ, fun _ => 0, xt, xv) v') (nI nc, ytop, nI bc, nI lc, vd, el, st, nI at', nI pc, nI dp, nI tp, nI kd, nI ke, nI mN, nI mL, nI mD, nI mT, yT, yI, yW, xL, xbt, xbf, yt, yv) v1 := by
    intro h
    unfold wpY_label
    refine br_c (fun _ => ⟨rfl, rel⟩) (fun h1 => br_c (fun _ => ⟨rfl, rel⟩) (fun h2 => ?_))
    obtain ⟨t, ht, rfl⟩ := nI_of h1
    have tn : t < nc := by
      rcases Nat.lt_or_ge t nc with z | z
      · exact z
      · exact absurd (nI_le z ht) h2
    have k5 := P.2.2.2.2.2.1 t
    rw [ta_5, nI_clamp (by omega), (Y t tn).1]
    exact ⟨ta_vi (by omega), pk_eq (K t) 5 (fun c => absurd ⟨t, rfl, tn, c⟩ h) (fun _ => ⟨rfl, rel⟩)⟩
  refine ta_xisNode (k := 5) P X (by omega) (fun h => br_f (by decide) ?_) (fun h => br_t rfl (ybad h))
  obtain ⟨t, rfl, tn, k5⟩ := h
  have ygood : ∀ post : Int32 → SY → Prop, ((nI bc < 8 → wpY_changed (fun u => match u with | (ync, ytop, ybc, ylc, yvd, yel, yst, yat, ypc, ydp, ytp, ykd, yke, ymN, ymL, ymD, ymT, yT, yI, yW, yL, ybt, ybf, yt, yv) => (vp_in ybc 8 ∧ ∀ a_bt_33 : Nat → Int32, a_bt_33 = upd ybt ybc.toNatClampNeg (nI t) → (vp_in ybc 8 ∧ ∀ a_bf_35 : Nat → Int32, a_bf_35 = upd ybf ybc.toNatClampNeg ylc → (∀ f_labels_36 : Int32, f_labels_36 = ybc + 1 → (post (f_labels_36 - 1) (ync, ytop, f_labels_36, ylc, yvd, yel, yst, yat, ypc, ydp, ytp, ykd, yke, ymN, ymL, ymD, ymT, yT, yI, yW, yL, a_bt_33, a_bf_35, yt, yv)))))) (nI nc, ytop, nI bc, nI lc, vd, el, st, nI at', nI pc, nI dp, nI tp, nI kd, nI ke, nI mN, nI mL, nI mD, nI mT, yT, yI, yW, xL, xbt, xbf, yt, yv)) ∧ (¬ nI bc < 8 → post (-1) (nI nc, ytop, nI bc, nI lc, vd, el, st, nI at', nI pc, nI dp, nI tp, nI kd, nI ke, nI mN, nI mL, nI mD, nI mT, yT, yI, yW, xL, xbt, xbf, yt, yv))) → wpY_label post (nI nc, ytop, nI bc, nI lc, vd, el, st, nI at', nI pc, nI dp, nI tp, nI kd, nI ke, nI mN, nI mL, nI mD, nI mT, yT, yI, yW, xL, xbt, xbf, yt, yv) (nI t) := by
    intro post h
    unfold wpY_label
    refine br_f (nI_pos (by omega)) (br_f (nI_ge tn (by omega)) ?_)
    rw [ta_5, nI_clamp (by omega), (Y t tn).1]
    exact ⟨ta_vi (by omega), br_t (congrArg nI k5) h⟩
  refine pk_lt bc 8 (fun hb => ⟨ta_vi (by omega), nm_r (e' := upd xbt bc (nI t)) (by rw [nI_clamp (by omega)]) ⟨ta_vi (by omega), nm_r (e' := upd xbf bc (nI lc)) (by rw [nI_clamp (by omega)]) (nm_r (nI_1 bc) ?_)⟩⟩) (fun hb => ?_)
  · refine ta_xchanged ?_
    show wpY_label _ _ _
    refine ygood _ (br_t (nI_lt (b := 8) hb (by decide)) ?_)
    refine ta_ychanged ?_
    refine ⟨ta_vi (by omega), nm_r (e' := upd xbt bc (nI t)) (by rw [nI_clamp (by omega)]) ⟨ta_vi (by omega), nm_r (e' := upd xbf bc (nI lc)) (by rw [nI_clamp (by omega)]) (nm_r (nI_1 bc) ⟨rfl, ?_⟩)⟩⟩
    refine ta_in' (bc := bc + 1) (at' := 0) (pc := 0) (dp := 0) (tp := 0) (st := 0) A Kn (Or.inl ⟨by decide, Or.inl rfl⟩) ⟨by omega, l1, l40, fun l hl => ?_, fun l hl => ?_, pl⟩ (ta_MA0 Ma.1 Ma.2.1)
    · by_cases c : l = bc
      · rw [c, pk_us]; exact ⟨t, rfl, tn, k5⟩
      · rw [pk_un c]; exact pt l (by omega)
    · by_cases c : l = bc
      · rw [c, pk_us]; exact ⟨lc, rfl, Nat.le_refl _⟩
      · rw [pk_un c]; exact pf l (by omega)
  · show wpY_label _ _ _
    exact ygood _ (br_f (nI_nlt (b := 8) hb (by omega)) ⟨rfl, rel⟩)
end
section
/-! emit -/
def ta_rg (n : Nat) (p : Int32) : Prop := ∃ a, a ≤ n ∧ p = nI a
theorem ta_rg_le {n : Nat} (hn : n < 2 ^ 31) {x y : Int32} (hy : y = nI n) {A B : Prop} (f : ta_rg n x → A) (g : ¬ ta_rg n x → B) : (x < 0 → B) ∧ (¬ x < 0 → ((x ≤ y → A) ∧ (¬ x ≤ y → B))) := by
  subst hy
  refine br_c (fun h => g (fun ⟨a, ha, e⟩ => ta_neg h (by omega) e)) (fun h => ?_)
  obtain ⟨a, ha, rfl⟩ := nI_of h
  refine pk_le a n (fun c => f ⟨a, c, rfl⟩) (fun c => g (fun ⟨b, hb, e⟩ => ?_))
  rw [nI_eq ha (by omega)] at e
  omega
theorem ta_rg_lt {n : Nat} (hn : n < 2 ^ 31) {x y : Int32} (hy : y = nI n) {A B : Prop} (f : ta_rg n x → A) (g : ¬ ta_rg n x → B) : (x < 0 → B) ∧ (¬ x < 0 → ((y < x → B) ∧ (¬ y < x → A))) := by
  subst hy
  refine br_c (fun h => g (fun ⟨a, ha, e⟩ => ta_neg h (by omega) e)) (fun h => ?_)
  obtain ⟨a, ha, rfl⟩ := nI_of h
  refine pk_lt n a (fun c => g (fun ⟨b, hb, e⟩ => ?_)) (fun c => f ⟨a, c, rfl⟩)
  rw [nI_eq ha (by omega)] at e
  omega
def ta_OK (K : Nat → Nat) (nc o : Nat) (p1 p2 p3 : Int32) : Prop :=
  (o = 12 ∨ ta_rg 2 p1) ∧ (o = 5 ∨ o = 6 → ta_rg 1 p3) ∧ (o = 1 ∨ o = 9 ∨ o = 10 ∨ o = 11 ∨ o = 12 → ta_rg 7 p2) ∧ (o = 2 ∨ o = 3 ∨ o = 5 ∨ o = 6 → ta_rg 2 p2) ∧ (o = 4 → ta_NP K nc p2 4)
def ta_pr4 (L : Nat → Int32) (lc : Nat) (o a b c : Int32) : Nat → Int32 := upd (upd (upd (upd L (4 * lc) o) (4 * lc + 1) a) (4 * lc + 2) b) (4 * lc + 3) c
section
variable {xmN xmL xmD xmT xnc xlc xbc xvd xel xkd xke xqd xst xat xpc xdp xtp : Int32} {xK xP xL xbt xbf xR xB xQ xS xt xv : Nat → Int32}
variable {ync ytop ybc ylc yvd yel yst yat ypc ydp ytp ykd yke ymN ymL ymD ymT : Int32} {yT yI yW yL ybt ybf yt yv : Nat → Int32}
variable {K : Nat → Nat} {N : Nat → Nat → Option Nat} {nc lc o : Nat} {p1 p2 p3 : Int32}
theorem ta_xop (A : ta_PA K N nc) (X : ta_XA K N nc xK xP) (ho : o ≤ 14) {post : Int32 → Prop} (h1 : ta_OK K nc o p1 p2 p3 → post 1) (h0 : ¬ ta_OK K nc o p1 p2 p3 → post 0) : wpX_operandsGood post (xmN, xmL, xmD, xmT, nI nc, xlc, xbc, xvd, xel, xkd, xke, xqd, xst, xat, xpc, xdp, xtp, xK, xP, xL, xbt, xbf, xR, xB, xQ, xS, xt, xv) (nI o) p1 p2 p3 := by
  have nar : ∀ {r : Int32} {Q : Prop}, (r = 0 ∨ r = 1) → Q → (narrow .boolean (.int r) = .int r ∧ Q) := fun h q => ⟨by rcases h with h | h <;> rw [h] <;> rfl, q⟩
  have e116 : (ta_rg 7 p2 → post 1) → (¬ ta_rg 7 p2 → post 0) → wX_operandsGood_116 post p2 xmN xmL xmD xmT (nI nc) xlc xbc xvd xel xkd xke xqd xst xat xpc xdp xtp xK xP xL xbt xbf xR xB xQ xS xt xv := fun f g => ta_rg_lt (n := 7) (by omega) rfl f g
  have e132 : (ta_rg 2 p2 → post 1) → (¬ ta_rg 2 p2 → post 0) → wX_operandsGood_132 post p2 xmN xmL xmD xmT (nI nc) xlc xbc xvd xel xkd xke xqd xst xat xpc xdp xtp xK xP xL xbt xbf xR xB xQ xS xt xv := fun f g => ta_rg_lt (n := 2) (by omega) rfl f g
  have e51 : (o = 12 ∨ ta_rg 2 p1) → (o = 5 ∨ o = 6 → ta_rg 1 p3) → wX_operandsGood_51 post (nI o) p2 xmN xmL xmD xmT (nI nc) xlc xbc xvd xel xkd xke xqd xst xat xpc xdp xtp xK xP xL xbt xbf xR xB xQ xS xt xv := by
    intro ha hc
    have f8 : (o = 1 ∨ o = 9 ∨ o = 10 ∨ o = 11 ∨ o = 12) → wX_operandsGood_116 post p2 xmN xmL xmD xmT (nI nc) xlc xbc xvd xel xkd xke xqd xst xat xpc xdp xtp xK xP xL xbt xbf xR xB xQ xS xt xv := fun z => e116 (fun g => h1 ⟨ha, hc, fun _ => g, fun z' => by omega, fun z' => by omega⟩) (fun g => h0 (fun w => g (w.2.2.1 z)))
    have f3 : (o = 2 ∨ o = 3 ∨ o = 5 ∨ o = 6) → wX_operandsGood_132 post p2 xmN xmL xmD xmT (nI nc) xlc xbc xvd xel xkd xke xqd xst xat xpc xdp xtp xK xP xL xbt xbf xR xB xQ xS xt xv := fun z => e132 (fun g => h1 ⟨ha, hc, fun z' => by omega, fun _ => g, fun z' => by omega⟩) (fun g => h0 (fun w => g (w.2.2.2.1 z)))
    have fn : (o = 0 ∨ o = 7 ∨ o = 8 ∨ o = 13 ∨ o = 14) → post 1 := fun z => h1 ⟨ha, hc, fun z' => by omega, fun z' => by omega, fun z' => by omega⟩
    unfold wX_operandsGood_51
    refine pk_lt o 1 (fun z => fn (by omega)) (fun z => pk_lt 12 o (fun z => fn (by omega)) (fun z12 => ?_))
    refine pk_eq o 1 (fun z => f8 (by omega)) (fun z1 => pk_eq o 2 (fun z => f3 (by omega)) (fun z2 => pk_eq o 3 (fun z => f3 (by omega)) (fun z3 => pk_eq o 4 (fun z => ?_) (fun z4 => ?_))))
    · exact ta_xisNode (k := 4) A X (by omega) (fun g => nar (Or.inr rfl) (h1 ⟨ha, hc, fun z' => by omega, fun z' => by omega, fun _ => g⟩)) (fun g => nar (Or.inl rfl) (h0 (fun w => g (w.2.2.2.2 z))))
    · exact pk_eq o 5 (fun z => f3 (by omega)) (fun z5 => pk_eq o 6 (fun z => f3 (by omega)) (fun z6 => pk_eq o 7 (fun z => fn (by omega)) (fun z7 => pk_eq o 8 (fun z => fn (by omega)) (fun z8 => pk_eq o 9 (fun z => f8 (by omega)) (fun z9 => pk_eq o 10 (fun z => f8 (by omega)) (fun z10 => pk_eq o 11 (fun z => f8 (by omega)) (fun z11 => pk_eq o 12 (fun z => f8 (by omega)) (fun z12 => trivial))))))))
  have e27 : (o = 12 ∨ ta_rg 2 p1) → wX_operandsGood_27 post (nI o) p2 p3 xmN xmL xmD xmT (nI nc) xlc xbc xvd xel xkd xke xqd xst xat xpc xdp xtp xK xP xL xbt xbf xR xB xQ xS xt xv := by
    intro ha
    have e38 : (o = 5 ∨ o = 6) → wX_operandsGood_38 post (nI o) p2 p3 xmN xmL xmD xmT (nI nc) xlc xbc xvd xel xkd xke xqd xst xat xpc xdp xtp xK xP xL xbt xbf xR xB xQ xS xt xv := fun z => ta_rg_le (n := 1) (by omega) rfl (fun g => e51 ha (fun _ => g)) (fun g => h0 (fun w => g (w.2.1 z)))
    unfold wX_operandsGood_27
    exact pk_eq o 5 (fun z => e38 (Or.inl z)) (fun z5 => pk_eq o 6 (fun z => e38 (Or.inr z)) (fun z6 => e51 ha (fun z => by omega)))
  unfold wpX_operandsGood
  refine br_f (nI_pos (by omega)) (br_f (nI_nlt (a := 14) (by omega) (by decide)) (pk_eq o 12 (fun z => e27 (Or.inl z)) (fun z => ?_)))
  refine ta_rg_le (n := 2) (by omega) rfl (fun g => e27 (Or.inr g)) (fun g => h0 (fun w => ?_))
  rcases w.1 with h | h
  · exact z h
  · exact g h
theorem ta_xem69 (ho : o ≤ 14) (hl : lc < 40) {z0 a' b' c' : Int32} (ha : (o = 12 → a' = 0) ∧ (o ≠ 12 → a' = p1)) (hb : (z0 = 0 → b' = p2) ∧ (¬ z0 = 0 → b' = 0)) (hc : (o = 5 ∨ o = 6 → c' = p3) ∧ (¬ (o = 5 ∨ o = 6) → c' = 0)) {post : Int32 → SX → Prop}
    (hp : post (nI lc) (xmN, xmL, xmD, xmT, xnc, nI (lc + 1), xbc, 0, -1, xkd, xke, xqd, 0, 0, 0, 0, 0, xK, xP, ta_pr4 xL lc (nI o) a' b' c', xbt, xbf, xR, xB, xQ, xS, ta_z3 xt, ta_z3 xv)) : wX_emit_69 post (nI o) p1 p2 p3 (nI (4 * lc)) z0 xmN xmL xmD xmT xnc (nI lc) xbc xvd xel xkd xke xqd xst xat xpc xdp xtp xK xP xL xbt xbf xR xB xQ xS xt xv := by
  have e143 : wX_emit_143 post c' (nI (4 * lc) + 3) xmN xmL xmD xmT xnc (nI lc) xbc xvd xel xkd xke xqd xst xat xpc xdp xtp xK xP (upd (upd (upd xL (4 * lc) (nI o)) (4 * lc + 1) a') (4 * lc + 2) b') xbt xbf xR xB xQ xS xt xv := by
    unfold wX_emit_143
    rw [ta_p3]
    refine ⟨ta_vi (by omega), nm_r (e' := ta_pr4 xL lc (nI o) a' b' c') (by rw [nI_clamp (by omega)]; rfl) (nm_r (nI_1 lc) ?_)⟩
    refine ta_xchanged ?_
    rw [← nI_pred lc] at hp
    exact hp
  have e117 : wX_emit_117 post (nI o) p3 (nI (4 * lc)) b' (nI (4 * lc) + 2) xmN xmL xmD xmT xnc (nI lc) xbc xvd xel xkd xke xqd xst xat xpc xdp xtp xK xP (upd (upd xL (4 * lc) (nI o)) (4 * lc + 1) a') xbt xbf xR xB xQ xS xt xv := by
    unfold wX_emit_117
    rw [ta_p2]
    refine ⟨ta_vi (by omega), nm_r (e' := upd (upd (upd xL (4 * lc) (nI o)) (4 * lc + 1) a') (4 * lc + 2) b') (by rw [nI_clamp (by omega)]) ?_⟩
    refine pk_eq o 5 (fun z => ?_) (fun z5 => pk_eq o 6 (fun z => ?_) (fun z6 => ?_))
    · rw [hc.1 (Or.inl z)] at e143; exact e143
    · rw [hc.1 (Or.inr z)] at e143; exact e143
    · rw [hc.2 (by omega)] at e143; exact e143
  have e98 : wX_emit_98 post (nI o) p2 p3 (nI (4 * lc)) z0 a' (nI (4 * lc) + 1) xmN xmL xmD xmT xnc (nI lc) xbc xvd xel xkd xke xqd xst xat xpc xdp xtp xK xP (upd xL (4 * lc) (nI o)) xbt xbf xR xB xQ xS xt xv := by
    unfold wX_emit_98
    rw [ta_p1]
    refine ⟨ta_vi (by omega), nm_r (e' := upd (upd xL (4 * lc) (nI o)) (4 * lc + 1) a') (by rw [nI_clamp (by omega)]) ?_⟩
    refine br_c (fun z => ?_) (fun z => ?_)
    · rw [hb.1 z] at e117; exact e117
    · rw [hb.2 z] at e117; exact e117
  unfold wX_emit_69
  refine ⟨ta_vi (by omega), nm_r (e' := upd xL (4 * lc) (nI o)) (by rw [nI_clamp (by omega)]) ?_⟩
  refine pk_eq o 12 (fun z => ?_) (fun z => ?_)
  · rw [ha.1 z] at e98; exact e98
  · rw [ha.2 z] at e98; exact e98
theorem ta_xemit (A : ta_PA K N nc) (X : ta_XA K N nc xK xP) (ho : o ≤ 14) {bc mL : Nat} (hb : 0 < bc) (hb8 : bc ≤ 8) (hl : lc < mL) (hm : mL ≤ 40) {a' b' c' : Int32} (ha : (o = 12 → a' = 0) ∧ (o ≠ 12 → a' = p1)) (hbb : (o = 7 ∨ o = 8 ∨ o = 13 ∨ o = 14 → b' = 0) ∧ (¬ (o = 7 ∨ o = 8 ∨ o = 13 ∨ o = 14) → b' = p2)) (hc : (o = 5 ∨ o = 6 → c' = p3) ∧ (¬ (o = 5 ∨ o = 6) → c' = 0)) {post : Int32 → SX → Prop}
    (h0 : ¬ ta_OK K nc o p1 p2 p3 → post (-1) (xmN, nI mL, xmD, xmT, nI nc, nI lc, nI bc, xvd, xel, xkd, xke, xqd, xst, xat, xpc, xdp, xtp, xK, xP, xL, xbt, xbf, xR, xB, xQ, xS, xt, xv))
    (h1 : ta_OK K nc o p1 p2 p3 → post (nI lc) (xmN, nI mL, xmD, xmT, nI nc, nI (lc + 1), nI bc, 0, -1, xkd, xke, xqd, 0, 0, 0, 0, 0, xK, xP, ta_pr4 xL lc (nI o) a' b' c', xbt, xbf, xR, xB, xQ, xS, ta_z3 xt, ta_z3 xv)) : wpX_emit post (xmN, nI mL, xmD, xmT, nI nc, nI lc, nI bc, xvd, xel, xkd, xke, xqd, xst, xat, xpc, xdp, xtp, xK, xP, xL, xbt, xbf, xR, xB, xQ, xS, xt, xv) (nI o) p1 p2 p3 := by
  unfold wpX_emit
  refine br_f (nI_ne0 hb (by omega)) (br_f (nI_ge hl (by omega)) ?_)
  refine ta_xop A X ho (fun g => br_f (by decide) (nm_r (ta_4 lc) ?_)) (fun g => br_t rfl (h0 g))
  have y : (o = 7 ∨ o = 8 ∨ o = 13 ∨ o = 14) → wX_emit_64 post (nI o) p1 p2 p3 (nI (4 * lc)) xmN (nI mL) xmD xmT (nI nc) (nI lc) (nI bc) xvd xel xkd xke xqd xst xat xpc xdp xtp xK xP xL xbt xbf xR xB xQ xS xt xv := fun z => ta_xem69 ho (by omega) ha ⟨fun w => absurd w (by decide), fun _ => hbb.1 z⟩ hc (h1 g)
  exact pk_eq o 7 (fun z => y (by omega)) (fun z7 => pk_eq o 8 (fun z => y (by omega)) (fun z8 => pk_eq o 13 (fun z => y (by omega)) (fun z13 => pk_eq o 14 (fun z => y (by omega)) (fun z14 => ta_xem69 ho (by omega) ha ⟨fun _ => hbb.2 (by omega), fun w => absurd rfl w⟩ hc (h1 g)))))
end
end
section
/-! emit, the reference -/
section
variable {ync ytop ybc ylc yvd yel yst yat ypc ydp ytp ykd yke ymN ymL ymD ymT : Int32} {yT yI yW yL ybt ybf yt yv : Nat → Int32}
variable {K : Nat → Nat} {N : Nat → Nat → Option Nat} {nc lc o : Nat} {p1 p2 p3 : Int32}
theorem ta_yuA (ho : o ≤ 14) {post : Int32 → Prop} (h1 : (o = 3 ∨ o = 6 ∨ o = 7 ∨ o = 10 ∨ o = 11 ∨ o = 13 ∨ o = 14) → post 1) (h0 : ¬ (o = 3 ∨ o = 6 ∨ o = 7 ∨ o = 10 ∨ o = 11 ∨ o = 13 ∨ o = 14) → post 0) : wpY_usesA post (ync, ytop, ybc, ylc, yvd, yel, yst, yat, ypc, ydp, ytp, ykd, yke, ymN, ymL, ymD, ymT, yT, yI, yW, yL, ybt, ybf, yt, yv) (nI o) := by
  unfold wpY_usesA
  exact pk_eq o 3 (fun z => h1 (by omega)) (fun z3 => pk_eq o 6 (fun z => h1 (by omega)) (fun z6 => pk_eq o 7 (fun z => h1 (by omega)) (fun z7 => pk_eq o 10 (fun z => h1 (by omega)) (fun z10 => pk_eq o 11 (fun z => h1 (by omega)) (fun z11 => pk_eq o 13 (fun z => h1 (by omega)) (fun z13 => pk_eq o 14 (fun z => h1 (by omega)) (fun z14 => h0 (by omega))))))))
theorem ta_yuB (ho : o ≤ 14) {post : Int32 → Prop} (h1 : (o = 2 ∨ o = 3 ∨ o = 5 ∨ o = 6) → post 1) (h0 : ¬ (o = 2 ∨ o = 3 ∨ o = 5 ∨ o = 6) → post 0) : wpY_usesB post (ync, ytop, ybc, ylc, yvd, yel, yst, yat, ypc, ydp, ytp, ykd, yke, ymN, ymL, ymD, ymT, yT, yI, yW, yL, ybt, ybf, yt, yv) (nI o) := by
  unfold wpY_usesB
  exact pk_eq o 2 (fun z => h1 (by omega)) (fun z2 => pk_eq o 3 (fun z => h1 (by omega)) (fun z3 => pk_eq o 5 (fun z => h1 (by omega)) (fun z5 => pk_eq o 6 (fun z => h1 (by omega)) (fun z6 => h0 (by omega)))))
theorem ta_yuL (ho : o ≤ 14) {post : Int32 → Prop} (h1 : (o = 1 ∨ o = 11 ∨ o = 12) → post 1) (h0 : ¬ (o = 1 ∨ o = 11 ∨ o = 12) → post 0) : wpY_usesLabel post (ync, ytop, ybc, ylc, yvd, yel, yst, yat, ypc, ydp, ytp, ykd, yke, ymN, ymL, ymD, ymT, yT, yI, yW, yL, ybt, ybf, yt, yv) (nI o) := by
  unfold wpY_usesLabel
  exact pk_eq o 1 (fun z => h1 (by omega)) (fun z2 => pk_eq o 11 (fun z => h1 (by omega)) (fun z3 => pk_eq o 12 (fun z => h1 (by omega)) (fun z5 => h0 (by omega))))
theorem ta_yuC (ho : o ≤ 14) {post : Int32 → Prop} (h1 : (o = 8 ∨ o = 9 ∨ o = 10) → post 1) (h0 : ¬ (o = 8 ∨ o = 9 ∨ o = 10) → post 0) : wpY_usesCell post (ync, ytop, ybc, ylc, yvd, yel, yst, yat, ypc, ydp, ytp, ykd, yke, ymN, ymL, ymD, ymT, yT, yI, yW, yL, ybt, ybf, yt, yv) (nI o) := by
  unfold wpY_usesCell
  exact pk_eq o 8 (fun z => h1 (by omega)) (fun z2 => pk_eq o 9 (fun z => h1 (by omega)) (fun z3 => pk_eq o 10 (fun z => h1 (by omega)) (fun z5 => h0 (by omega))))
def ta_fl (f : Int32) (c : Prop) : Prop := (f = 0 ∧ ¬ c) ∨ (f = 1 ∧ c)
theorem ta_fl_br {f : Int32} {c A B : Prop} (h : ta_fl f c) (a : ¬ c → A) (b : c → B) : (f = 0 → A) ∧ (¬ f = 0 → B) := by
  rcases h with ⟨e, h⟩ | ⟨e, h⟩
  · exact br_t e (a h)
  · exact br_f (by rw [e]; decide) (b h)
theorem ta_yem177 (ho : o ≤ 14) (hl : lc < 40) {f5 f6 f7 a' b' c' : Int32} (g5 : ta_fl f5 (o = 5 ∨ o = 6)) (g6 : ta_fl f6 (o = 2 ∨ o = 3 ∨ o = 5 ∨ o = 6)) (g7 : ta_fl f7 (o = 1 ∨ o = 9 ∨ o = 10 ∨ o = 11 ∨ o = 12))
    (ha : (o = 12 → a' = 0) ∧ (o ≠ 12 → a' = p1)) (hbb : (o = 7 ∨ o = 8 ∨ o = 13 ∨ o = 14 → b' = 0) ∧ (¬ (o = 7 ∨ o = 8 ∨ o = 13 ∨ o = 14) → b' = p2)) (hc : (o = 5 ∨ o = 6 → c' = p3) ∧ (¬ (o = 5 ∨ o = 6) → c' = 0)) {post : Int32 → SY → Prop}
    (hp : post (nI lc) (ync, ytop, ybc, nI (lc + 1), 0, -1, 0, 0, 0, 0, 0, ykd, yke, ymN, ymL, ymD, ymT, yT, yI, yW, ta_pr4 yL lc (nI o) a' b' c', ybt, ybf, ta_z3 yt, ta_z3 yv)) : wY_emit_177 post (nI o) p1 p2 p3 f5 f6 f7 ync ytop ybc (nI lc) yvd yel yst yat ypc ydp ytp ykd yke ymN ymL ymD ymT yT yI yW yL ybt ybf yt yv := by
  have i1 : (4 : Int32) * nI lc + 1 = nI (4 * lc + 1) := by rw [ta_4, ta_p1]
  have i2 : (4 : Int32) * nI lc + 2 = nI (4 * lc + 2) := by rw [ta_4, ta_p2]
  have i3 : (4 : Int32) * nI lc + 3 = nI (4 * lc + 3) := by rw [ta_4, ta_p3]
  have e277 : wY_emit_277 post c' (4 * nI lc + 3) ync ytop ybc (nI lc) 0 (-1) 0 0 0 0 0 ykd yke ymN ymL ymD ymT yT yI yW (upd (upd (upd yL (4 * lc) (nI o)) (4 * lc + 1) a') (4 * lc + 2) b') ybt ybf (ta_z3 yt) (ta_z3 yv) := by
    unfold wY_emit_277
    rw [i3]
    refine ⟨ta_vi (by omega), nm_r (e' := ta_pr4 yL lc (nI o) a' b' c') (by rw [nI_clamp (by omega)]; rfl) (nm_r (nI_1 lc) ?_)⟩
    rw [nI_pred]
    exact hp
  have e253 : wY_emit_253 post p3 f5 b' (4 * nI lc + 2) ync ytop ybc (nI lc) 0 (-1) 0 0 0 0 0 ykd yke ymN ymL ymD ymT yT yI yW (upd (upd yL (4 * lc) (nI o)) (4 * lc + 1) a') ybt ybf (ta_z3 yt) (ta_z3 yv) := by
    unfold wY_emit_253
    rw [i2]
    refine ⟨ta_vi (by omega), nm_r (e' := upd (upd (upd yL (4 * lc) (nI o)) (4 * lc + 1) a') (4 * lc + 2) b') (by rw [nI_clamp (by omega)]) (ta_fl_br g5 (fun z => ?_) (fun z => ?_))⟩
    · rw [hc.2 z] at e277; exact e277
    · rw [hc.1 z] at e277; exact e277
  have e248 : ¬ (o = 7 ∨ o = 8 ∨ o = 13 ∨ o = 14) → wY_emit_248 post p2 p3 f5 (4 * nI lc + 2) ync ytop ybc (nI lc) 0 (-1) 0 0 0 0 0 ykd yke ymN ymL ymD ymT yT yI yW (upd (upd yL (4 * lc) (nI o)) (4 * lc + 1) a') ybt ybf (ta_z3 yt) (ta_z3 yv) := by
    intro z
    unfold wY_emit_248
    rw [hbb.2 z] at e253
    exact e253
  have e216 : wY_emit_216 post (nI o) p2 p3 f5 f6 f7 a' (4 * nI lc + 1) ync ytop ybc (nI lc) 0 (-1) 0 0 0 0 0 ykd yke ymN ymL ymD ymT yT yI yW (upd yL (4 * lc) (nI o)) ybt ybf (ta_z3 yt) (ta_z3 yv) := by
    unfold wY_emit_216
    rw [i1]
    refine ⟨ta_vi (by omega), nm_r (e' := upd (upd yL (4 * lc) (nI o)) (4 * lc + 1) a') (by rw [nI_clamp (by omega)]) (ta_fl_br g6 (fun z6 => ta_fl_br g7 (fun z7 => ?_) (fun z7 => e248 (by omega))) (fun z6 => e248 (by omega)))⟩
    refine pk_eq o 4 (fun z => e248 (by omega)) (fun z4 => pk_eq o 0 (fun z => e248 (by omega)) (fun z0 => ?_))
    rw [hbb.1 (by omega)] at e253
    exact e253
  unfold wY_emit_177
  refine ta_ychanged ?_
  refine ⟨by rw [ta_4]; exact ta_vi (by omega), nm_r (e' := upd yL (4 * lc) (nI o)) (by rw [ta_4, nI_clamp (by omega)]) ?_⟩
  refine pk_eq o 12 (fun z => ?_) (fun z => ?_)
  · rw [ha.1 z] at e216; exact e216
  · rw [ha.2 z] at e216; exact e216
theorem ta_yemit (A : ta_PA K N nc) (Y : ta_YA K N nc yT) (ho : o ≤ 14) {bc mL : Nat} (hb : 0 < bc) (hb8 : bc ≤ 8) (hl : lc < mL) (hm : mL ≤ 40) {a' b' c' : Int32} (ha : (o = 12 → a' = 0) ∧ (o ≠ 12 → a' = p1)) (hbb : (o = 7 ∨ o = 8 ∨ o = 13 ∨ o = 14 → b' = 0) ∧ (¬ (o = 7 ∨ o = 8 ∨ o = 13 ∨ o = 14) → b' = p2)) (hc : (o = 5 ∨ o = 6 → c' = p3) ∧ (¬ (o = 5 ∨ o = 6) → c' = 0)) {post : Int32 → SY → Prop}
    (h0 : ¬ ta_OK K nc o p1 p2 p3 → post (-1) (nI nc, ytop, nI bc, nI lc, yvd, yel, yst, yat, ypc, ydp, ytp, ykd, yke, ymN, nI mL, ymD, ymT, yT, yI, yW, yL, ybt, ybf, yt, yv))
    (h1 : ta_OK K nc o p1 p2 p3 → post (nI lc) (nI nc, ytop, nI bc, nI (lc + 1), 0, -1, 0, 0, 0, 0, 0, ykd, yke, ymN, nI mL, ymD, ymT, yT, yI, yW, ta_pr4 yL lc (nI o) a' b' c', ybt, ybf, ta_z3 yt, ta_z3 yv)) : wpY_emit post (nI nc, ytop, nI bc, nI lc, yvd, yel, yst, yat, ypc, ydp, ytp, ykd, yke, ymN, nI mL, ymD, ymT, yT, yI, yW, yL, ybt, ybf, yt, yv) (nI o) p1 p2 p3 := by
  have n24 := A.2.1
  have e80 : ∀ f5 f6 f7 : Int32, ta_fl f5 (o = 5 ∨ o = 6) → ta_fl f6 (o = 2 ∨ o = 3 ∨ o = 5 ∨ o = 6) → ta_fl f7 (o = 1 ∨ o = 9 ∨ o = 10 ∨ o = 11 ∨ o = 12) → wY_emit_80 post (nI o) p1 p2 p3 f5 f6 f7 (nI nc) ytop (nI bc) (nI lc) yvd yel yst yat ypc ydp ytp ykd yke ymN (nI mL) ymD ymT yT yI yW yL ybt ybf yt yv := by
    intro f5 f6 f7 g5 g6 g7
    have e177 : ta_OK K nc o p1 p2 p3 → wY_emit_177 post (nI o) p1 p2 p3 f5 f6 f7 (nI nc) ytop (nI bc) (nI lc) yvd yel yst yat ypc ydp ytp ykd yke ymN (nI mL) ymD ymT yT yI yW yL ybt ybf yt yv := fun g => ta_yem177 ho (by omega) g5 g6 g7 ha hbb hc (h1 g)
    have e146 : (o = 12 ∨ ta_rg 2 p1) → (o = 5 ∨ o = 6 → ta_rg 1 p3) → (o = 2 ∨ o = 3 ∨ o = 5 ∨ o = 6 → ta_rg 2 p2) → (o = 1 ∨ o = 9 ∨ o = 10 ∨ o = 11 ∨ o = 12 → ta_rg 7 p2) → wY_emit_146 post (nI o) p1 p2 p3 f5 f6 f7 (nI nc) ytop (nI bc) (nI lc) yvd yel yst yat ypc ydp ytp ykd yke ymN (nI mL) ymD ymT yT yI yW yL ybt ybf yt yv := by
      intro q1 q2 q3 q4
      unfold wY_emit_146
      refine pk_eq o 4 (fun z => ?_) (fun z => e177 ⟨q1, q2, q4, q3, fun w => absurd w z⟩)
      refine br_c (fun h => h0 (fun w => ?_)) (fun h => br_c (fun h2 => h0 (fun w => ?_)) (fun h2 => ?_))
      · obtain ⟨t, e, lt, _⟩ := w.2.2.2.2 z
        exact ta_neg h (by omega) e
      · obtain ⟨t, e, lt, _⟩ := w.2.2.2.2 z
        rw [e] at h2
        exact nI_ge lt (by omega) h2
      · obtain ⟨t, ht, rfl⟩ := nI_of h
        have tn : t < nc := by
          rcases Nat.lt_or_ge t nc with w | w
          · exact w
          · exact absurd (nI_le w ht) h2
        have k5 := A.2.2.2.2.2.1 t
        rw [ta_5, nI_clamp (by omega), (Y t tn).1]
        refine ⟨ta_vi (by omega), pk_eq (K t) 4 (fun c => e177 ⟨q1, q2, q4, q3, fun _ => ⟨t, rfl, tn, c⟩⟩) (fun c => h0 (fun w => ?_))⟩
        have := (ta_NPn n24 ht).mp (w.2.2.2.2 z)
        exact c this.2
    have e129 : (o = 12 ∨ ta_rg 2 p1) → (o = 5 ∨ o = 6 → ta_rg 1 p3) → (o = 2 ∨ o = 3 ∨ o = 5 ∨ o = 6 → ta_rg 2 p2) → wY_emit_129 post (nI o) p1 p2 p3 f5 f6 f7 (nI nc) ytop (nI bc) (nI lc) yvd yel yst yat ypc ydp ytp ykd yke ymN (nI mL) ymD ymT yT yI yW yL ybt ybf yt yv := by
      intro q1 q2 q3
      unfold wY_emit_129
      exact ta_fl_br g7 (fun z => e146 q1 q2 q3 (fun w => absurd w z)) (fun z => ta_rg_le (n := 7) (by omega) rfl (fun g => e146 q1 q2 q3 (fun _ => g)) (fun g => h0 (fun w => g (w.2.2.1 z))))
    have e115 : (o = 12 ∨ ta_rg 2 p1) → (o = 5 ∨ o = 6 → ta_rg 1 p3) → wY_emit_115 post (nI o) p1 p2 p3 f5 f6 f7 (nI nc) ytop (nI bc) (nI lc) yvd yel yst yat ypc ydp ytp ykd yke ymN (nI mL) ymD ymT yT yI yW yL ybt ybf yt yv := by
      intro q1 q2
      unfold wY_emit_115
      exact ta_fl_br g6 (fun z => e129 q1 q2 (fun w => absurd w z)) (fun z => ta_rg_lt (n := 2) (by omega) rfl (fun g => e129 q1 q2 (fun _ => g)) (fun g => h0 (fun w => g (w.2.2.2.1 z))))
    have e97 : (o = 12 ∨ ta_rg 2 p1) → wY_emit_97 post (nI o) p1 p2 p3 f5 f6 f7 (nI nc) ytop (nI bc) (nI lc) yvd yel yst yat ypc ydp ytp ykd yke ymN (nI mL) ymD ymT yT yI yW yL ybt ybf yt yv := by
      intro q1
      unfold wY_emit_97
      exact ta_fl_br g5 (fun z => e115 q1 (fun w => absurd w z)) (fun z => ta_rg_le (n := 1) (by omega) rfl (fun g => e115 q1 (fun _ => g)) (fun g => h0 (fun w => g (w.2.1 z))))
    unfold wY_emit_80
    refine pk_eq o 12 (fun z => e97 (Or.inl z)) (fun z => ta_rg_lt (n := 2) (by omega) rfl (fun g => e97 (Or.inr g)) (fun g => h0 (fun w => ?_)))
    rcases w.1 with h | h
    · exact z h
    · exact g h
  have e46 : ∀ f5 : Int32, ta_fl f5 (o = 5 ∨ o = 6) → wY_emit_46 post (nI o) p1 p2 p3 f5 (nI nc) ytop (nI bc) (nI lc) yvd yel yst yat ypc ydp ytp ykd yke ymN (nI mL) ymD ymT yT yI yW yL ybt ybf yt yv := by
    intro f5 g5
    have fin : ∀ f6 : Int32, ta_fl f6 (o = 2 ∨ o = 3 ∨ o = 5 ∨ o = 6) → wpY_usesLabel (fun r_32 => (((r_32 = 0 → (((nI o = 9 → (wY_emit_75 post (nI o) p1 p2 p3 f5 f6 (nI nc) ytop (nI bc) (nI lc) yvd yel yst yat ypc ydp ytp ykd yke ymN (nI mL) ymD ymT yT yI yW yL ybt ybf yt yv)) ∧ (¬ nI o = 9 → (((nI o = 10 → (wY_emit_75 post (nI o) p1 p2 p3 f5 f6 (nI nc) ytop (nI bc) (nI lc) yvd yel yst yat ypc ydp ytp ykd yke ymN (nI mL) ymD ymT yT yI yW yL ybt ybf yt yv)) ∧ (¬ nI o = 10 → (wY_emit_80 post (nI o) p1 p2 p3 f5 f6 0 (nI nc) ytop (nI bc) (nI lc) yvd yel yst yat ypc ydp ytp ykd yke ymN (nI mL) ymD ymT yT yI yW yL ybt ybf yt yv)))))))) ∧ (¬ r_32 = 0 → (wY_emit_75 post (nI o) p1 p2 p3 f5 f6 (nI nc) ytop (nI bc) (nI lc) yvd yel yst yat ypc ydp ytp ykd yke ymN (nI mL) ymD ymT yT yI yW yL ybt ybf yt yv))))) (nI nc, ytop, nI bc, nI lc, yvd, yel, yst, yat, ypc, ydp, ytp, ykd, yke, ymN, nI mL, ymD, ymT, yT, yI, yW, yL, ybt, ybf, yt, yv) (nI o) := by
      intro f6 g6
      refine ta_yuL ho (fun z => br_f (by decide) (e80 f5 f6 1 g5 g6 (Or.inr ⟨rfl, by omega⟩))) (fun z => br_t rfl ?_)
      exact pk_eq o 9 (fun z' => e80 f5 f6 1 g5 g6 (Or.inr ⟨rfl, by omega⟩)) (fun z9 => pk_eq o 10 (fun z' => e80 f5 f6 1 g5 g6 (Or.inr ⟨rfl, by omega⟩)) (fun z10 => e80 f5 f6 0 g5 g6 (Or.inl ⟨rfl, by omega⟩)))
    unfold wY_emit_46
    exact ta_yuB ho (fun z => fin 1 (Or.inr ⟨rfl, z⟩)) (fun z => fin 0 (Or.inl ⟨rfl, z⟩))
  unfold wpY_emit
  refine br_f (nI_ne0 hb (by omega)) (br_f (nI_ge hl (by omega)) (br_f (nI_pos (by omega)) (br_t (nI_le (b := 14) ho (by decide)) ?_)))
  exact pk_eq o 5 (fun z => e46 1 (Or.inr ⟨rfl, Or.inl z⟩)) (fun z5 => pk_eq o 6 (fun z => e46 1 (Or.inr ⟨rfl, Or.inr z⟩)) (fun z6 => e46 0 (Or.inl ⟨rfl, by omega⟩)))
end
theorem ta_pr4_lo {L : Nat → Int32} {lc j : Nat} {o a b c : Int32} (h : j < 4 * lc) : ta_pr4 L lc o a b c j = L j := by
  unfold ta_pr4
  rw [pk_un (by omega), pk_un (by omega), pk_un (by omega), pk_un (by omega)]
theorem ta_pr4_at {L : Nat → Int32} {lc : Nat} {o a b c : Int32} : ta_pr4 L lc o a b c (4 * lc) = o ∧ ta_pr4 L lc o a b c (4 * lc + 1) = a ∧ ta_pr4 L lc o a b c (4 * lc + 2) = b ∧ ta_pr4 L lc o a b c (4 * lc + 3) = c := by
  unfold ta_pr4
  refine ⟨?_, ?_, ?_, ?_⟩
  · rw [pk_un (by omega), pk_un (by omega), pk_un (by omega), pk_us]
  · rw [pk_un (by omega), pk_un (by omega), pk_us]
  · rw [pk_un (by omega), pk_us]
  · rw [pk_us]
theorem i_vc_emit {k : Nat} {u : SX} {v : SY} (I : i_Rel k u v) (hk : k + 5 ≤ 2564) (v1 : Int32) (v2 : Int32) (v3 : Int32) (v4 : Int32) : wpX_emit (fun r u' => wpY_emit (fun r' v' => r' = r ∧ i_Rel (k + 5) u' v') v v1 v2 v3 v4) u v1 v2 v3 v4 := by
  refine ta_el (P := fun u v => wpX_emit (fun r u' => wpY_emit (fun r' v' => r' = r ∧ i_Rel (k + 5) u' v') v v1 v2 v3 v4) u v1 v2 v3 v4) ?_ I
  intro K N D E mN mL mD mT nc lc bc kd ke at' pc dp tp vd el st xqd ytop xK xP xL xbt xbf xR xB xQ xt xv yT yI yW yt yv A Kn Vd Pr Ma
  have rel := ta_in' (k := k + 5) (xqd := xqd) (ytop := ytop) (xB := xB) (xQ := xQ) (yI := yI) (st := st) A Kn Vd Pr Ma
  have P := A.1
  have X := A.2.2.2.1
  have Y := A.2.2.2.2.1
  obtain ⟨b8, l1, l40, pt, pf, pl⟩ := Pr
  by_cases hb : bc = 0
  · subst hb
    exact br_t rfl (br_t rfl ⟨rfl, rel⟩)
  · have hb' : ¬ nI bc = 0 := nI_ne0 (by omega) (by omega)
    by_cases hl : lc < mL
    · have hl' : ¬ nI mL ≤ nI lc := nI_ge hl (by omega)
      rcases pk_ix v1 (n := 15) (by omega) with h | h | ⟨o, ho, rfl⟩
      · refine br_f hb' (br_f hl' (br_t h (br_t rfl ?_)))
        exact br_f hb' (br_f hl' (br_t h ⟨rfl, rel⟩))
      · have h0 : ¬ v1 < 0 := fun z => absurd (Int32.lt_of_le_of_lt h z) (by decide)
        have h14 : (14 : Int32) < v1 := Int32.lt_of_lt_of_le (show (14 : Int32) < nI 15 from by decide) h
        refine br_f hb' (br_f hl' (br_f h0 (br_t h14 (br_t rfl ?_))))
        exact br_f hb' (br_f hl' (br_f h0 (br_f (Int32.not_le.mpr h14) ⟨rfl, rel⟩)))
      · obtain ⟨a', ha⟩ : ∃ a' : Int32, (o = 12 → a' = 0) ∧ (o ≠ 12 → a' = v2) := by
          by_cases c : o = 12
          · exact ⟨0, fun _ => rfl, fun z => absurd c z⟩
          · exact ⟨v2, fun z => absurd z c, fun _ => rfl⟩
        obtain ⟨b', hbb⟩ : ∃ b' : Int32, (o = 7 ∨ o = 8 ∨ o = 13 ∨ o = 14 → b' = 0) ∧ (¬ (o = 7 ∨ o = 8 ∨ o = 13 ∨ o = 14) → b' = v3) := by
          by_cases c : o = 7 ∨ o = 8 ∨ o = 13 ∨ o = 14
          · exact ⟨0, fun _ => rfl, fun z => absurd c z⟩
          · exact ⟨v3, fun z => absurd z c, fun _ => rfl⟩
        obtain ⟨c', hcc⟩ : ∃ c' : Int32, (o = 5 ∨ o = 6 → c' = v4) ∧ (¬ (o = 5 ∨ o = 6) → c' = 0) := by
          by_cases c : o = 5 ∨ o = 6
          · exact ⟨v4, fun _ => rfl, fun z => absurd c z⟩
          · exact ⟨0, fun z => absurd z c, fun _ => rfl⟩
        refine ta_xemit P X (by omega) (by omega) b8 hl l40 ha hbb hcc (fun g => ?_) (fun g => ?_)
        · exact ta_yemit P Y (by omega) (by omega) b8 hl l40 ha hbb hcc (fun _ => ⟨rfl, rel⟩) (fun z => absurd z g)
        · refine ta_yemit P Y (by omega) (by omega) b8 hl l40 ha hbb hcc (fun z => absurd g z) (fun _ => ⟨rfl, ?_⟩)
          refine ta_in' (lc := lc + 1) (at' := 0) (pc := 0) (dp := 0) (tp := 0) (st := 0) A Kn (Or.inl ⟨by decide, Or.inl rfl⟩) ⟨b8, by omega, l40, pt, fun l hl2 => ?_, fun i hi => ?_⟩ (ta_MA0 Ma.1 Ma.2.1)
          · obtain ⟨f, e, lf⟩ := pf l hl2
            exact ⟨f, e, by omega⟩
          · by_cases c : i = lc
            · subst c
              obtain ⟨q0, q1, q2, q3⟩ := ta_pr4_at (L := xL) (lc := i) (o := nI o) (a := a') (b := b') (c := c')
              obtain ⟨ga, gc, g8, g3, g4⟩ := g
              obtain ⟨a, a3, ea⟩ : ∃ a, a < 3 ∧ a' = nI a := by
                by_cases z : o = 12
                · exact ⟨0, by omega, ha.1 z⟩
                · rcases ga with w | ⟨a, w, e⟩
                  · exact absurd w z
                  · exact ⟨a, by omega, (ha.2 z).trans e⟩
              obtain ⟨c0, c2, ec⟩ : ∃ c0, c0 < 2 ∧ c' = nI c0 := by
                by_cases z : o = 5 ∨ o = 6
                · obtain ⟨a, w, e⟩ := gc z
                  exact ⟨a, by omega, (hcc.1 z).trans e⟩
                · exact ⟨0, by omega, hcc.2 z⟩
              refine ⟨o, a, c0, q0, by omega, q1.trans ea, a3, q3.trans ec, c2, fun z0 => ?_⟩
              by_cases zb : o = 7 ∨ o = 8 ∨ o = 13 ∨ o = 14
              · exact ⟨0, q2.trans (hbb.1 zb), fun z => by omega, fun z => by omega, fun z => by omega, fun _ => rfl⟩
              · have eb := q2.trans (hbb.2 zb)
                by_cases z8 : o = 1 ∨ o = 9 ∨ o = 10 ∨ o = 11 ∨ o = 12
                · obtain ⟨b, w, e⟩ := g8 z8
                  exact ⟨b, eb.trans e, fun z => by omega, fun z => by omega, fun z => by omega, fun z => by omega⟩
                · by_cases z3 : o = 2 ∨ o = 3 ∨ o = 5 ∨ o = 6
                  · obtain ⟨b, w, e⟩ := g3 z3
                    exact ⟨b, eb.trans e, fun z => by omega, fun z => by omega, fun z => by omega, fun z => by omega⟩
                  · have z4 : o = 4 := by omega
                    obtain ⟨b, e, w, kb⟩ := g4 z4
                    exact ⟨b, eb.trans e, fun z => by omega, fun z => by omega, fun _ => ⟨w, kb⟩, fun z => by omega⟩
            · have := pl i (by omega)
              obtain ⟨o', a, c0, e0, o1, e1, a3, e3, c2, rest⟩ := this
              refine ⟨o', a, c0, ?_, o1, ?_, a3, ?_, c2, fun z => ?_⟩
              · rw [ta_pr4_lo (by omega)]; exact e0
              · rw [ta_pr4_lo (by omega)]; exact e1
              · rw [ta_pr4_lo (by omega)]; exact e3
              · rw [ta_pr4_lo (by omega)]; exact rest z
    · have hl' : nI mL ≤ nI lc := nI_le (by omega) (by omega)
      exact br_f hb' (br_t hl' (br_f hb' (br_t hl' ⟨rfl, rel⟩)))
end
section
/-! the constructors -/
section
variable {xmN xmL xmD xmT xnc xlc xbc xvd xel xkd xke xqd xst xat xpc xdp xtp : Int32} {xK xP xL xbt xbf xR xB xQ xS xt xv : Nat → Int32}
variable {ync ytop ybc ylc yvd yel yst yat ypc ydp ytp ykd yke ymN ymL ymD ymT : Int32} {yT yI yW yL ybt ybf yt yv : Nat → Int32}
theorem ta_clamp (p : Int32) {lo hi : Nat} (h : lo ≤ hi) (hh : hi < 2 ^ 31) : ∃ m : Nat, lo ≤ m ∧ m ≤ hi ∧ (∀ {xmN xmL xmD xmT xnc xlc xbc xvd xel xkd xke xqd xst xat xpc xdp xtp : Int32} {xK xP xL xbt xbf xR xB xQ xS xt xv : Nat → Int32} (post : Int32 → Prop), post (nI m) → wpX_clamp post (xmN, xmL, xmD, xmT, xnc, xlc, xbc, xvd, xel, xkd, xke, xqd, xst, xat, xpc, xdp, xtp, xK, xP, xL, xbt, xbf, xR, xB, xQ, xS, xt, xv) p (nI lo) (nI hi)) ∧ (∀ {ync ytop ybc ylc yvd yel yst yat ypc ydp ytp ykd yke ymN ymL ymD ymT : Int32} {yT yI yW yL ybt ybf yt yv : Nat → Int32} (post : Int32 → Prop), post (nI m) → wpY_clamp post (ync, ytop, ybc, ylc, yvd, yel, yst, yat, ypc, ydp, ytp, ykd, yke, ymN, ymL, ymD, ymT, yT, yI, yW, yL, ybt, ybf, yt, yv) p (nI lo) (nI hi)) := by
  by_cases h1 : nI lo ≤ p
  · have h0 : ¬ p < 0 := fun z => nI_pos (n := lo) (by omega) (Int32.lt_of_le_of_lt h1 z)
    obtain ⟨m, hm, rfl⟩ := nI_of h0
    rw [nI_leI (by omega) hm] at h1
    by_cases h2 : m ≤ hi
    · exact ⟨m, h1, h2, fun post hp => br_t (nI_le h1 hm) (br_t (nI_le h2 hh) hp), fun post hp => br_t (nI_le h1 hm) (br_t (nI_le h2 hh) hp)⟩
    · exact ⟨hi, h, Nat.le_refl _, fun post hp => br_t (nI_le h1 hm) (br_f (nI_ge (by omega) hm) hp), fun post hp => br_t (nI_le h1 hm) (br_f (nI_ge (by omega) hm) hp)⟩
  · exact ⟨lo, Nat.le_refl _, h, fun post hp => br_f h1 hp, fun post hp => br_f h1 hp⟩
theorem ta_init163 : ∀ (d i : Nat) (f : Nat → Int32), i + d = 32 → ∃ f' : Nat → Int32, (∀ j, i ≤ j → j < 32 → f' j = nI 3) ∧ (∀ j, j < i → f' j = f j) ∧
    ∀ {xmN xmL xmD xmT xnc xlc xbc xvd xel xkd xke xqd xst xat xpc xdp xtp : Int32} {xP xL xbt xbf xR xB xQ xS xt xv : Nat → Int32} (post : SX → Prop), post (xmN, xmL, xmD, xmT, 3, xlc, xbc, xvd, -1, xkd, xke, xqd, xst, xat, xpc, xdp, xtp, f', xP, xL, xbt, xbf, xR, xB, xQ, xS, xt, xv) → wX_init_163 post xmN xmL xmD xmT xnc xlc xbc xvd xel xkd xke xqd xst xat xpc xdp xtp (d + 1) (nI i) f xP xL xbt xbf xR xB xQ xS xt xv := by
  intro d
  induction d with
  | zero =>
    intro i f hi
    refine ⟨f, fun j h1 h2 => by omega, fun _ _ => rfl, fun post hp => ?_⟩
    rw [wX_init_163]
    exact br_t (nI_le (a := 32) (by omega) (by omega)) hp
  | succ d ih =>
    intro i f hi
    obtain ⟨f', h1, h2, G⟩ := ih (i + 1) (upd f i 3) (by omega)
    refine ⟨f', fun j j1 j2 => ?_, fun j hj => ?_, fun post hp => ?_⟩
    · by_cases c : j = i
      · rw [c, h2 i (by omega), pk_us]; rfl
      · exact h1 j (by omega) j2
    · rw [h2 j (by omega), pk_un (by omega)]
    · rw [wX_init_163]
      exact br_f (nI_ge (b := 32) (by omega) (by decide)) ⟨ta_vi (by omega), nm_r (e' := upd f i 3) (by rw [nI_clamp (by omega)]) (nm_r (nI_1 i) (G post hp))⟩
def ta_T1 : Nat → Int32 := ta_app (fun _ => 0) 0 (nI 0) ta_m ta_m ta_m ta_m
def ta_T2 : Nat → Int32 := ta_app ta_T1 1 (nI 1) ta_m ta_m ta_m ta_m
def ta_T3 : Nat → Int32 := ta_app ta_T2 2 (nI 2) ta_m ta_m ta_m ta_m
theorem ta_T1h : ∀ i, i < 1 → ¬ ta_hitY ta_T1 (nI 1) ta_m ta_m ta_m ta_m i := by
  intro i hi h
  have : i = 0 := by omega
  subst this
  have a := h.1
  have b : ta_T1 (5 * 0) = nI 0 := (ta_app_hit (yT := fun _ => 0) (top := 0) (p0 := nI 0) (p1 := ta_m) (p2 := ta_m) (p3 := ta_m) (p4 := ta_m)).1
  rw [b] at a
  exact absurd a (by decide)
theorem ta_T2k : ta_T2 (5 * 0) = nI 0 ∧ ta_T2 (5 * 1) = nI 1 := by
  refine ⟨?_, (ta_app_hit (yT := ta_T1) (top := 1) (p0 := nI 1) (p1 := ta_m) (p2 := ta_m) (p3 := ta_m) (p4 := ta_m)).1⟩
  unfold ta_T2
  rw [ta_app_lo (by omega)]
  exact (ta_app_hit (yT := fun _ => 0) (top := 0) (p0 := nI 0) (p1 := ta_m) (p2 := ta_m) (p3 := ta_m) (p4 := ta_m)).1
theorem ta_T2h : ∀ i, i < 2 → ¬ ta_hitY ta_T2 (nI 2) ta_m ta_m ta_m ta_m i := by
  intro i hi h
  have a := h.1
  rcases Nat.lt_or_ge i 1 with z | z
  · have : i = 0 := by omega
    subst this
    rw [ta_T2k.1] at a
    exact absurd a (by decide)
  · have : i = 1 := by omega
    subst this
    rw [ta_T2k.2] at a
    exact absurd a (by decide)
theorem ta_T3rows : ∀ i, i < 3 → ta_hitY ta_T3 (nI i) ta_m ta_m ta_m ta_m i := by
  have h2 := ta_app_hit (yT := ta_T2) (top := 2) (p0 := nI 2) (p1 := ta_m) (p2 := ta_m) (p3 := ta_m) (p4 := ta_m)
  have h1 := ta_app_hit (yT := ta_T1) (top := 1) (p0 := nI 1) (p1 := ta_m) (p2 := ta_m) (p3 := ta_m) (p4 := ta_m)
  have h0 := ta_app_hit (yT := fun _ => 0) (top := 0) (p0 := nI 0) (p1 := ta_m) (p2 := ta_m) (p3 := ta_m) (p4 := ta_m)
  have l2 : ∀ j, j < 10 → ta_T3 j = ta_T2 j := fun j hj => ta_app_lo (by omega)
  have l1 : ∀ j, j < 5 → ta_T2 j = ta_T1 j := fun j hj => ta_app_lo (by omega)
  intro i hi
  rcases Nat.lt_or_ge i 1 with z | z
  · have : i = 0 := by omega
    subst this
    unfold ta_hitY
    rw [l2 _ (by omega), l2 _ (by omega), l2 _ (by omega), l2 _ (by omega), l2 _ (by omega), l1 _ (by omega), l1 _ (by omega), l1 _ (by omega), l1 _ (by omega), l1 _ (by omega)]
    exact h0
  · rcases Nat.lt_or_ge i 2 with z | z
    · have : i = 1 := by omega
      subst this
      unfold ta_hitY
      rw [l2 _ (by omega), l2 _ (by omega), l2 _ (by omega), l2 _ (by omega), l2 _ (by omega)]
      exact h1
    · have : i = 2 := by omega
      subst this
      exact h2
theorem ta_T3can : ta_Can ta_T3 3 := ta_app_can (ta_app_can (ta_app_can (fun a b ha hb _ => by omega) (fun i hi => by omega)) ta_T1h) ta_T2h
theorem ta_yinit {post : SY → Prop} (hp : post (nI 3, nI 3, ybc, ylc, 0, -1, 0, 0, 0, 0, 0, ykd, yke, ymN, ymL, ymD, ymT, ta_T3, yI, yW, yL, ybt, ybf, ta_z3 yt, ta_z3 yv)) :
    wY_init_124 post (0 + 1 + 1 + 1 + 1) 0 ync 0 ybc ylc yvd yel yst yat ypc ydp ytp ykd yke ymN ymL ymD ymT (fun _ => 0) yI yW yL ybt ybf yt yv := by
  rw [wY_init_124]
  refine br_f (by decide) (ta_yj_new (top := 0) (lim := 24) (by omega) (by omega) (fun i hi => by omega) (nm_r (e' := nI 1) rfl ?_))
  rw [wY_init_124]
  refine br_f (by decide) (ta_yj_new (top := 1) (lim := 24) (by omega) (by omega) ta_T1h (nm_r (e' := nI 2) rfl ?_))
  rw [wY_init_124]
  refine br_f (by decide) (ta_yj_new (top := 2) (lim := 24) (by omega) (by omega) ta_T2h (nm_r (e' := nI 3) rfl ?_))
  rw [wY_init_124]
  refine br_t (by decide) (ta_ychanged ?_)
  exact hp
theorem ta_AR0 {mN : Nat} {f : Nat → Int32} (h1 : 8 ≤ mN) (h2 : mN ≤ 24) (f0 : f 0 = nI 0) (f1 : f 1 = nI 1) (f2 : f 2 = nI 2) (f3 : ∀ d, d < 8 → f (24 + d) = nI 3) :
    ta_AR (fun i => if i < 3 then i else 3) (fun _ _ => none) (fun _ => 0) (fun i => i) 3 mN f (fun _ => 0) ta_T3 := by
  have kk : ∀ i, i < 3 → (if i < 3 then i else 3) = i := fun i hi => if_pos hi
  have ff : ∀ i, i < 3 → f i = nI i := by
    intro i hi
    rcases Nat.lt_or_ge i 1 with z | z
    · have : i = 0 := by omega
      rw [this]; exact f0
    · rcases Nat.lt_or_ge i 2 with z | z
      · have : i = 1 := by omega
        rw [this]; exact f1
      · have : i = 2 := by omega
        rw [this]; exact f2
  refine ⟨⟨by omega, by omega, rfl, rfl, rfl, fun i => ?_, fun i a b => by omega, fun i hi j hj => ?_⟩, fun i hi sk => ?_, fun i hi sk => ?_, fun i hi => ?_, fun i hi => ?_, ta_T3can, f3, by omega, h2⟩
  · dsimp only
    by_cases c : i < 3
    · rw [if_pos c]; omega
    · rw [if_neg c]; omega
  · unfold ta_SL
    dsimp only
    rw [kk i hi]
    exact ⟨fun z => by omega, fun z => ⟨fun z' => by omega, fun _ => rfl⟩⟩
  · dsimp only
    rw [kk i hi]
    exact ⟨by omega, fun z => by omega, fun _ => ⟨rfl, rfl⟩⟩
  · unfold ta_SK at sk
    dsimp only at sk ⊢
    rw [kk i hi] at sk
    omega
  · have e := kk i hi
    refine ⟨?_, fun j hj => ?_⟩
    · show f i = nI (if i < 3 then i else 3)
      rw [e]; exact ff i hi
    · have p0 : ta_pt (if i < 3 then i else 3) = 0 := by rw [e]; exact ta_pt3 hi
      show (0 : Int32) = if j < ta_pt (if i < 3 then i else 3) then ta_enc none else nI 0
      by_cases c : j < ta_pt (if i < 3 then i else 3)
      · omega
      · rw [if_neg c]; rfl
  · dsimp only
    rw [kk i hi]
    have h := ta_T3rows i hi
    refine ⟨h.1, ta_j4 h.2.1 h.2.2.1 h.2.2.2.1 h.2.2.2.2⟩
end
theorem i_vc0 (k0 : Int32) (k1 : Int32) (k2 : Int32) (k3 : Int32) : wpX_init (fun u => wpY_init (fun v => i_Rel 4 u v) k0 k1 k2 k3) k0 k1 k2 k3 := by
  obtain ⟨mN, n1, n2, GX0, GY0⟩ := ta_clamp k0 (lo := 8) (hi := 24) (by omega) (by omega)
  obtain ⟨mL, l1, l2, GX1, GY1⟩ := ta_clamp k1 (lo := 8) (hi := 40) (by omega) (by omega)
  obtain ⟨mD, d1, d2, GX2, GY2⟩ := ta_clamp k2 (lo := 4) (hi := 24) (by omega) (by omega)
  obtain ⟨mT, t1, t2, GX3, GY3⟩ := ta_clamp k3 (lo := 2) (hi := 12) (by omega) (by omega)
  obtain ⟨f, f1, f2, GF⟩ := ta_init163 8 24 (upd (upd (fun _ => 0) 1 1) 2 2) (by omega)
  unfold wpX_init
  refine GX0 _ ?_
  refine GX1 _ ?_
  refine GX2 _ ?_
  refine GX3 _ ?_
  refine nm_e (nm_e ⟨_, GF _ ?_⟩)
  show wpY_init _ _ _ _ _
  unfold wpY_init
  refine GY0 _ ?_
  refine GY1 _ ?_
  refine GY2 _ ?_
  refine GY3 _ ?_
  refine ⟨_, ta_yinit ?_⟩
  refine ta_in' (K := fun i => if i < 3 then i else 3) (N := fun _ _ => none) (D := fun _ => 0) (E := fun i => i) (mN := mN) (mL := mL) (mD := mD) (mT := mT) (nc := 3) (lc := 0) (bc := 0) (kd := 0) (ke := 0) (at' := 0) (pc := 0) (dp := 0) (tp := 0)
    (ta_AR0 n1 n2 ?_ ?_ ?_ (fun d hd => f1 _ (by omega) (by omega))) ⟨by omega, Or.inl rfl, fun r hr => rfl, fun j hj => by omega⟩ (Or.inl ⟨by decide, Or.inl rfl⟩) ⟨by omega, by omega, by omega, fun l hl => by omega, fun l hl => by omega, fun i hi => by omega⟩
    ⟨by omega, by omega, by omega, by omega, by omega, by omega, fun r hr => ?_, fun j hj => by omega, fun i hi => by omega⟩
  · rw [f2 0 (by omega)]; rfl
  · rw [f2 1 (by omega)]; rfl
  · rw [f2 2 (by omega)]; rfl
  · rw [ta_z3r _ r hr]
    exact ⟨rfl, rfl, ta_CO0 (show nI 0 ≠ nI 2 from by decide) (show nI 0 ≠ nI 3 from by decide)⟩
end
section
/-! the machine: cells -/
section
variable {xmN xmL xmD xmT xnc xlc xbc xvd xel xkd xke xqd xst xat xpc xdp xtp : Int32} {xK xP xL xbt xbf xR xB xQ xS xt xv : Nat → Int32}
variable {ync ytop ybc ylc yvd yel yst yat ypc ydp ytp ykd yke ymN ymL ymD ymT : Int32} {yT yI yW yL ybt ybf yt yv : Nat → Int32}
variable {mD mT bc lc dp tp at' pc : Nat}
theorem ta_CO_mono {bc tp tp' : Nat} {t v : Int32} (h : tp ≤ tp') (c : ta_CO bc tp t v) : ta_CO bc tp' t v := by
  refine ⟨c.1, fun e => ?_⟩
  obtain ⟨l, a, b⟩ := c.2 e
  exact ⟨l, a, by omega⟩
/-- another place -/
theorem ta_MA_at (M : ta_MA mD mT bc lc dp tp at' pc xt xv yt yv) {at2 pc2 : Nat} (h1 : at2 < 8) (h2 : pc2 ≤ lc) : ta_MA mD mT bc lc dp tp at2 pc2 xt xv yt yv := by
  obtain ⟨m1, m2, m3, m4, _, _, m7⟩ := M
  exact ⟨m1, m2, m3, m4, h1, h2, m7⟩
theorem ta_MA_reg (M : ta_MA mD mT bc lc dp tp at' pc xt xv yt yv) {a : Nat} (ha : a < 3) {t v : Int32} (c : ta_CO bc tp t v) : ta_MA mD mT bc lc dp tp at' pc (upd xt a t) (upd xv a v) (upd yt a t) (upd yv a v) := by
  obtain ⟨m1, m2, m3, m4, m5, m6, mr, ms, mh⟩ := M
  refine ⟨m1, m2, m3, m4, m5, m6, fun r hr => ?_, fun j hj => ?_, fun i hi => ?_⟩
  · by_cases e : r = a
    · subst e
      rw [pk_us, pk_us, pk_us, pk_us]
      exact ⟨rfl, rfl, c⟩
    · rw [pk_un e, pk_un e, pk_un e, pk_un e]
      exact mr r hr
  · rw [pk_un (by omega), pk_un (by omega), pk_un (by omega), pk_un (by omega)]
    exact ms j hj
  · rw [pk_un (by omega), pk_un (by omega), pk_un (by omega), pk_un (by omega)]
    exact mh i hi
theorem ta_MA_heap (M : ta_MA mD mT bc lc dp tp at' pc xt xv yt yv) {i : Nat} (hi : i < 2 * tp) {t v : Int32} (c : ta_CO bc tp t v) : ta_MA mD mT bc lc dp tp at' pc (upd xt (27 + i) t) (upd xv (27 + i) v) (upd yt (27 + i) t) (upd yv (27 + i) v) := by
  obtain ⟨m1, m2, m3, m4, m5, m6, mr, ms, mh⟩ := M
  refine ⟨m1, m2, m3, m4, m5, m6, fun r hr => ?_, fun j hj => ?_, fun i' hi' => ?_⟩
  · rw [pk_un (by omega), pk_un (by omega), pk_un (by omega), pk_un (by omega)]
    exact mr r hr
  · rw [pk_un (by omega), pk_un (by omega), pk_un (by omega), pk_un (by omega)]
    exact ms j hj
  · by_cases e : i' = i
    · subst e
      rw [pk_us, pk_us, pk_us, pk_us]
      exact ⟨rfl, rfl, c⟩
    · rw [pk_un (by omega), pk_un (by omega), pk_un (by omega), pk_un (by omega)]
      exact mh i' hi'
theorem ta_MA_poke (M : ta_MA mD mT bc lc dp tp at' pc xt xv yt yv) {b : Nat} (hb : b < dp) {t v : Int32} (t0 : t ≠ nI 0) (c : ta_CO bc tp t v) : ta_MA mD mT bc lc dp tp at' pc (upd xt (2 + dp - b) t) (upd xv (2 + dp - b) v) (upd yt (3 + b) t) (upd yv (3 + b) v) := by
  obtain ⟨m1, m2, m3, m4, m5, m6, mr, ms, mh⟩ := M
  refine ⟨m1, m2, m3, m4, m5, m6, fun r hr => ?_, fun j hj => ?_, fun i hi => ?_⟩
  · rw [pk_un (by omega), pk_un (by omega), pk_un (by omega), pk_un (by omega)]
    exact mr r hr
  · by_cases e : j = b
    · subst e
      rw [pk_us, pk_us, pk_us, pk_us]
      exact ⟨rfl, rfl, t0, c⟩
    · rw [pk_un (by omega), pk_un (by omega), pk_un (by omega), pk_un (by omega)]
      exact ms j hj
  · rw [pk_un (by omega), pk_un (by omega), pk_un (by omega), pk_un (by omega)]
    exact mh i hi
theorem ta_MA_push (M : ta_MA mD mT bc lc dp tp at' pc xt xv yt yv) (hd : dp < mD) {t v : Int32} (t0 : t ≠ nI 0) (c : ta_CO bc tp t v) {yt' yv' : Nat → Int32}
    (s1 : ∀ i, 1 ≤ i → i ≤ dp → yt' (3 + i) = yt (2 + i) ∧ yv' (3 + i) = yv (2 + i)) (s2 : ∀ i, (i < 4 ∨ 3 + dp < i) → yt' i = yt i ∧ yv' i = yv i) :
    ta_MA mD mT bc lc (dp + 1) tp at' pc (upd xt (2 + (dp + 1)) t) (upd xv (2 + (dp + 1)) v) (upd yt' 3 t) (upd yv' 3 v) := by
  obtain ⟨m1, m2, m3, m4, m5, m6, mr, ms, mh⟩ := M
  refine ⟨m1, m2, by omega, m4, m5, m6, fun r hr => ?_, fun j hj => ?_, fun i hi => ?_⟩
  · rw [pk_un (by omega), pk_un (by omega), pk_un (by omega), pk_un (by omega), (s2 r (by omega)).1, (s2 r (by omega)).2]
    exact mr r hr
  · by_cases e : j = 0
    · subst e
      rw [Nat.add_zero, Nat.sub_zero, pk_us, pk_us, pk_us, pk_us]
      exact ⟨rfl, rfl, t0, c⟩
    · have h := ms (j - 1) (by omega)
      rw [show 2 + dp - (j - 1) = 2 + (dp + 1) - j by omega, show 3 + (j - 1) = 2 + j by omega] at h
      rw [pk_un (by omega), pk_un (by omega), pk_un (by omega), pk_un (by omega), (s1 j (by omega) (by omega)).1, (s1 j (by omega) (by omega)).2]
      exact h
  · rw [pk_un (by omega), pk_un (by omega), pk_un (by omega), pk_un (by omega), (s2 _ (by omega)).1, (s2 _ (by omega)).2]
    exact mh i hi
theorem ta_MA_pop (M : ta_MA mD mT bc lc dp tp at' pc xt xv yt yv) (hd : 0 < dp) {yt' yv' : Nat → Int32}
    (s1 : ∀ i, 0 ≤ i → i < dp - 1 → yt' (3 + i) = yt (4 + i) ∧ yv' (3 + i) = yv (4 + i)) (s2 : ∀ i, (i < 3 + 0 ∨ 3 + (dp - 1) ≤ i) → yt' i = yt i ∧ yv' i = yv i) :
    ta_MA mD mT bc lc (dp - 1) tp at' pc xt xv yt' yv' := by
  obtain ⟨m1, m2, m3, m4, m5, m6, mr, ms, mh⟩ := M
  refine ⟨m1, m2, by omega, m4, m5, m6, fun r hr => ?_, fun j hj => ?_, fun i hi => ?_⟩
  · rw [(s2 r (by omega)).1, (s2 r (by omega)).2]
    exact mr r hr
  · have h := ms (j + 1) (by omega)
    rw [show 2 + dp - (j + 1) = 2 + (dp - 1) - j by omega, show 3 + (j + 1) = 4 + j by omega] at h
    rw [(s1 j (by omega) hj).1, (s1 j (by omega) hj).2]
    exact h
  · rw [(s2 _ (by omega)).1, (s2 _ (by omega)).2]
    exact mh i hi
theorem ta_MA_new (M : ta_MA mD mT bc lc dp tp at' pc xt xv yt yv) (ht : tp < mT) {a : Nat} (ha : a < 3) :
    ta_MA mD mT bc lc dp (tp + 1) at' pc (upd (upd (upd xt (27 + 2 * tp) 0) (27 + 2 * tp + 1) 0) a 3) (upd (upd (upd xv (27 + 2 * tp) 0) (27 + 2 * tp + 1) 0) a (nI tp))
      (upd (upd (upd yt a 3) (27 + 2 * tp) 0) (28 + 2 * tp) 0) (upd (upd (upd yv a (nI tp)) (27 + 2 * tp) 0) (28 + 2 * tp) 0) := by
  obtain ⟨m1, m2, m3, m4, m5, m6, mr, ms, mh⟩ := M
  refine ⟨m1, m2, m3, by omega, m5, m6, fun r hr => ?_, fun j hj => ?_, fun i hi => ?_⟩
  · rw [pk_un (k := 28 + 2 * tp) (by omega), pk_un (k := 27 + 2 * tp) (by omega), pk_un (k := 28 + 2 * tp) (by omega), pk_un (k := 27 + 2 * tp) (by omega)]
    by_cases e : r = a
    · subst e
      rw [pk_us, pk_us, pk_us, pk_us]
      exact ⟨rfl, rfl, fun z => absurd z (by decide), fun _ => ⟨tp, rfl, by omega⟩⟩
    · rw [pk_un e, pk_un e, pk_un (by omega), pk_un (by omega), pk_un e, pk_un e, pk_un (by omega), pk_un (by omega)]
      obtain ⟨q1, q2, q3⟩ := mr r hr
      exact ⟨q1, q2, ta_CO_mono (by omega) q3⟩
  · rw [pk_un (by omega), pk_un (by omega), pk_un (by omega), pk_un (by omega), pk_un (by omega), pk_un (by omega), pk_un (by omega), pk_un (by omega), pk_un (by omega), pk_un (by omega), pk_un (by omega), pk_un (by omega)]
    obtain ⟨q1, q2, q3, q4⟩ := ms j hj
    exact ⟨q1, q2, q3, ta_CO_mono (by omega) q4⟩
  · rcases Nat.lt_or_ge i (2 * tp) with z | z
    · rw [pk_un (by omega), pk_un (by omega), pk_un (by omega), pk_un (by omega), pk_un (by omega), pk_un (by omega), pk_un (by omega), pk_un (by omega), pk_un (by omega), pk_un (by omega), pk_un (by omega), pk_un (by omega)]
      obtain ⟨q1, q2, q3⟩ := mh i z
      exact ⟨q1, q2, ta_CO_mono (by omega) q3⟩
    · by_cases e : i = 2 * tp
      · subst e
        rw [pk_un (k := 28 + 2 * tp) (by omega), pk_us, pk_un (k := 28 + 2 * tp) (by omega), pk_us, pk_un (k := a) (by omega), pk_un (k := 27 + 2 * tp + 1) (by omega), pk_us, pk_un (k := a) (by omega), pk_un (k := 27 + 2 * tp + 1) (by omega), pk_us]
        exact ⟨rfl, rfl, ta_CO0 (by decide) (by decide)⟩
      · have e : 27 + i = 27 + 2 * tp + 1 := by omega
        rw [e, show 28 + 2 * tp = 27 + 2 * tp + 1 by omega, pk_us, pk_us, pk_un (k := a) (by omega), pk_us, pk_un (k := a) (by omega), pk_us]
        exact ⟨rfl, rfl, ta_CO0 (by decide) (by decide)⟩
/-- reading a cell, the test's outcome known -/
theorem ta_rdt {f : Nat → Int32} {a : Nat} {k : Int32} {P Q : Prop} (ha : a < 51) (e : f a = k) (h : P) : vp_in (nI a) 51 ∧ ((f (nI a).toNatClampNeg = k → P) ∧ (¬ f (nI a).toNatClampNeg = k → Q)) := by
  rw [nI_clamp (by omega)]
  exact ⟨ta_vi ha, br_t e h⟩
theorem ta_rdf {f : Nat → Int32} {a : Nat} {k : Int32} {P Q : Prop} (ha : a < 51) (e : ¬ f a = k) (h : Q) : vp_in (nI a) 51 ∧ ((f (nI a).toNatClampNeg = k → P) ∧ (¬ f (nI a).toNatClampNeg = k → Q)) := by
  rw [nI_clamp (by omega)]
  exact ⟨ta_vi ha, br_f e h⟩
/-- the shifts -/
theorem ta_ypsh {o : Int32} {a b : Int32} : ∀ (j : Nat) (yt yv : Nat → Int32), j ≤ 23 → ∃ yt' yv' : Nat → Int32,
    (∀ i, 1 ≤ i → i ≤ j → yt' (3 + i) = yt (2 + i) ∧ yv' (3 + i) = yv (2 + i)) ∧ (∀ i, (i < 4 ∨ 3 + j < i) → yt' i = yt i ∧ yv' i = yv i) ∧
    ∀ {ync ytop ybc ylc yvd yel yst yat ypc ydp ytp ykd yke ymN ymL ymD ymT : Int32} {yT yI yW yL ybt ybf : Nat → Int32} (post : Int32 → SY → Prop), wY_step_556 post o a b (0 + 1) (nI 0) ync ytop ybc ylc yvd yel yst yat ypc ydp ytp ykd yke ymN ymL ymD ymT yT yI yW yL ybt ybf yt' yv' → wY_step_556 post o a b (j + 1) (nI j) ync ytop ybc ylc yvd yel yst yat ypc ydp ytp ykd yke ymN ymL ymD ymT yT yI yW yL ybt ybf yt yv := by
  intro j
  induction j with
  | zero =>
    intro yt yv hj
    exact ⟨yt, yv, fun i h1 h2 => by omega, fun _ _ => ⟨rfl, rfl⟩, fun post hp => hp⟩
  | succ j ih =>
    intro yt yv hj
    obtain ⟨yt', yv', s1, s2, G⟩ := ih (upd yt (3 + (j + 1)) (yt (2 + (j + 1)))) (upd yv (3 + (j + 1)) (yv (2 + (j + 1)))) (by omega)
    refine ⟨yt', yv', fun i h1 h2 => ?_, fun i hi => ?_, fun post hp => ?_⟩
    · by_cases e : i = j + 1
      · subst e
        rw [(s2 _ (by omega)).1, (s2 _ (by omega)).2, pk_us, pk_us]
        exact ⟨rfl, rfl⟩
      · rw [(s1 i h1 (by omega)).1, (s1 i h1 (by omega)).2, pk_un (by omega), pk_un (by omega)]
        exact ⟨rfl, rfl⟩
    · rw [(s2 i (by omega)).1, (s2 i (by omega)).2, pk_un (by omega), pk_un (by omega)]
      exact ⟨rfl, rfl⟩
    · rw [wY_step_556]
      refine br_f (nI_nle (by omega) (by omega)) ?_
      rw [ta_l2, ta_l3, nI_add, nI_add, nI_clamp (by omega)]
      refine ⟨ta_vi (by omega), ta_vi (by omega), ta_yset (by omega) (nm_r (pk_m1 j) ?_)⟩
      exact G post hp
theorem ta_ypop {o : Int32} {a b : Int32} {n : Nat} (hn : n ≤ 23) : ∀ (d j : Nat) (yt yv : Nat → Int32), j + d = n → ∃ yt' yv' : Nat → Int32,
    (∀ i, j ≤ i → i < n → yt' (3 + i) = yt (4 + i) ∧ yv' (3 + i) = yv (4 + i)) ∧ (∀ i, (i < 3 + j ∨ 3 + n ≤ i) → yt' i = yt i ∧ yv' i = yv i) ∧
    ∀ {ync ytop ybc ylc yvd yel yst yat ypc ytp ykd yke ymN ymL ymD ymT : Int32} {yT yI yW yL ybt ybf : Nat → Int32} (post : Int32 → SY → Prop), wY_step_741 post o a b ync ytop ybc ylc yvd yel yst yat ypc (nI n) ytp ykd yke ymN ymL ymD ymT yT yI yW yL ybt ybf yt' yv' → wY_step_700 post o a b (d + 1) (nI j) ync ytop ybc ylc yvd yel yst yat ypc (nI n) ytp ykd yke ymN ymL ymD ymT yT yI yW yL ybt ybf yt yv := by
  intro d
  induction d with
  | zero =>
    intro j yt yv hj
    refine ⟨yt, yv, fun i h1 h2 => by omega, fun _ _ => ⟨rfl, rfl⟩, fun post hp => ?_⟩
    rw [wY_step_700]
    exact br_t (nI_le (by omega) (by omega)) hp
  | succ d ih =>
    intro j yt yv hj
    obtain ⟨yt', yv', s1, s2, G⟩ := ih (j + 1) (upd yt (3 + j) (yt (4 + j))) (upd yv (3 + j) (yv (4 + j))) (by omega)
    refine ⟨yt', yv', fun i h1 h2 => ?_, fun i hi => ?_, fun post hp => ?_⟩
    · by_cases e : i = j
      · subst e
        rw [(s2 _ (by omega)).1, (s2 _ (by omega)).2, pk_us, pk_us]
        exact ⟨rfl, rfl⟩
      · rw [(s1 i (by omega) h2).1, (s1 i (by omega) h2).2, pk_un (by omega), pk_un (by omega)]
        exact ⟨rfl, rfl⟩
    · rw [(s2 i (by omega)).1, (s2 i (by omega)).2, pk_un (by omega), pk_un (by omega)]
      exact ⟨rfl, rfl⟩
    · rw [wY_step_700]
      refine br_f (nI_ge (by omega) (by omega)) ?_
      rw [ta_l3, ta_l4, nI_add, nI_add, nI_clamp (by omega)]
      refine ⟨ta_vi (by omega), ta_vi (by omega), ta_yset (by omega) (nm_r (nI_1 j) ?_)⟩
      exact G post hp
end
end
section
/-! the machine: one step, up to the instruction -/
section
variable {xmN xmL xmD xmT xnc xlc xbc xvd xel xkd xke xqd xst xat xpc xdp xtp : Int32} {xK xP xL xbt xbf xR xB xQ xS xt xv : Nat → Int32}
variable {ync ytop ybc ylc yvd yel yst yat ypc ydp ytp ykd yke ymN ymL ymD ymT : Int32} {yT yI yW yL ybt ybf yt yv : Nat → Int32}
variable {mD mT bc lc dp tp at' pc : Nat}
def ta_SO (mD mT bc lc dp tp at' pc : Nat) (xL xbf xt xv yt yv : Nat → Int32) : Prop :=
  ∃ (st' : Int32) (at2 pc2 dp2 tp2 : Nat) (xt' xv' yt' yv' : Nat → Int32), ta_MA mD mT bc lc dp2 tp2 at2 pc2 xt' xv' yt' yv' ∧
    (∀ {xmN xmL xnc xvd xel xkd xke xqd : Int32} {xK xP xbt xR xB xQ xS : Nat → Int32} (post : SX → Prop), post (xmN, xmL, nI mD, nI mT, xnc, nI lc, nI bc, xvd, xel, xkd, xke, xqd, st', nI at2, nI pc2, nI dp2, nI tp2, xK, xP, xL, xbt, xbf, xR, xB, xQ, xS, xt', xv') → wpX_step post (xmN, xmL, nI mD, nI mT, xnc, nI lc, nI bc, xvd, xel, xkd, xke, xqd, 1, nI at', nI pc, nI dp, nI tp, xK, xP, xL, xbt, xbf, xR, xB, xQ, xS, xt, xv)) ∧
    (∀ {ync ytop yvd yel yst ykd yke ymN ymL : Int32} {yT yI yW ybt : Nat → Int32} (post : Int32 → SY → Prop), post st' (ync, ytop, nI bc, nI lc, yvd, yel, yst, nI at2, nI pc2, nI dp2, nI tp2, ykd, yke, ymN, ymL, nI mD, nI mT, yT, yI, yW, xL, ybt, xbf, yt', yv') → wpY_step post (ync, ytop, nI bc, nI lc, yvd, yel, yst, nI at', nI pc, nI dp, nI tp, ykd, yke, ymN, ymL, nI mD, nI mT, yT, yI, yW, xL, ybt, xbf, yt, yv))
theorem ta_bend {at' : Nat} (b8 : bc ≤ 8) (l40 : lc ≤ 40) (a8 : at' < 8) (pf : ∀ l, l < bc → ∃ f, xbf l = nI f ∧ f ≤ lc) :
    ∃ e, e ≤ lc ∧ (∀ {xmN xmL xmD xmT xnc xvd xel xkd xke xqd xst xat xpc xdp xtp : Int32} {xK xP xL xbt xR xB xQ xS xt xv : Nat → Int32} (post : Int32 → Prop), post (nI e) → wpX_blockEnd post (xmN, xmL, xmD, xmT, xnc, nI lc, nI bc, xvd, xel, xkd, xke, xqd, xst, xat, xpc, xdp, xtp, xK, xP, xL, xbt, xbf, xR, xB, xQ, xS, xt, xv) (nI at')) ∧
      (∀ {ync ytop yvd yel yst yat ypc ydp ytp ykd yke ymN ymL ymD ymT : Int32} {yT yI yW yL ybt yt yv : Nat → Int32} (post : Int32 → Prop), post (nI e) → wpY_stop post (ync, ytop, nI bc, nI lc, yvd, yel, yst, yat, ypc, ydp, ytp, ykd, yke, ymN, ymL, ymD, ymT, yT, yI, yW, yL, ybt, xbf, yt, yv) (nI at')) := by
  rcases Nat.lt_or_ge (at' + 1) bc with h | h
  · obtain ⟨f, ef, lf⟩ := pf (at' + 1) h
    refine ⟨f, lf, fun post hp => ?_, fun post hp => ?_⟩
    · unfold wpX_blockEnd
      refine br_f (by rw [nI_1]; exact nI_ge h (by omega)) ?_
      rw [nI_1, nI_clamp (by omega), ef]
      exact ⟨ta_vi (by omega), hp⟩
    · unfold wpY_stop
      refine br_f (by rw [nI_1]; exact nI_ge h (by omega)) ?_
      rw [nI_1, nI_clamp (by omega), ef]
      exact ⟨ta_vi (by omega), hp⟩
  · refine ⟨lc, Nat.le_refl _, fun post hp => ?_, fun post hp => ?_⟩
    · exact br_t (by rw [nI_1]; exact nI_le h (by omega)) hp
    · exact br_t (by rw [nI_1]; exact nI_le h (by omega)) hp
/-- the line at pc, and the block's end -/
def ta_SC (bc lc at' pc e o a c : Nat) (bI : Int32) (xL xbf : Nat → Int32) : Prop :=
  pc < e ∧ e ≤ lc ∧ lc ≤ 40 ∧ o ≤ 14 ∧ a < 3 ∧ c < 2 ∧ xL (4 * pc) = nI o ∧ xL (4 * pc + 1) = nI a ∧ xL (4 * pc + 2) = bI ∧ xL (4 * pc + 3) = nI c ∧
  (∀ {xmN xmL xmD xmT xnc xvd xel xkd xke xqd xst xat xpc xdp xtp : Int32} {xK xP xL xbt xR xB xQ xS xt xv : Nat → Int32} (post : Int32 → Prop), post (nI e) → wpX_blockEnd post (xmN, xmL, xmD, xmT, xnc, nI lc, nI bc, xvd, xel, xkd, xke, xqd, xst, xat, xpc, xdp, xtp, xK, xP, xL, xbt, xbf, xR, xB, xQ, xS, xt, xv) (nI at')) ∧
  (∀ {ync ytop yvd yel yst yat ypc ydp ytp ykd yke ymN ymL ymD ymT : Int32} {yT yI yW yL ybt yt yv : Nat → Int32} (post : Int32 → Prop), post (nI e) → wpY_stop post (ync, ytop, nI bc, nI lc, yvd, yel, yst, yat, ypc, ydp, ytp, ykd, yke, ymN, ymL, ymD, ymT, yT, yI, yW, yL, ybt, xbf, yt, yv) (nI at'))
theorem ta_xs1 {e o a c : Nat} {bI : Int32} (S : ta_SC bc lc at' pc e o a c bI xL xbf) (ho : o < 7) {post : SX → Prop}
    (h : wpX_plainStep (fun r u => match u with | (xmN, xmL, xmD, xmT, xnc, xlc, xbc, xvd, xel, xkd, xke, xqd, xst, xat, xpc, xdp, xtp, xK, xP, xL, xbt, xbf, xR, xB, xQ, xS, xt, xv) => wX_step_134 post xmN xmL xmD xmT xnc xlc xbc xvd xel xkd xke xqd r xat xpc xdp xtp xK xP xL xbt xbf xR xB xQ xS xt xv) (xmN, xmL, nI mD, nI mT, xnc, nI lc, nI bc, xvd, xel, xkd, xke, xqd, 1, nI at', nI pc, nI dp, nI tp, xK, xP, xL, xbt, xbf, xR, xB, xQ, xS, xt, xv) (nI o) (nI a) bI (nI c)) : wpX_step post (xmN, xmL, nI mD, nI mT, xnc, nI lc, nI bc, xvd, xel, xkd, xke, xqd, 1, nI at', nI pc, nI dp, nI tp, xK, xP, xL, xbt, xbf, xR, xB, xQ, xS, xt, xv) := by
  obtain ⟨pe, el, l40, _, a3, c2, L0, L1, L2, L3, GX, GY⟩ := S
  unfold wpX_step
  refine GX _ ?_
  refine br_t (nI_lt pe (by omega)) (nm_r (ta_4 pc) ?_)
  rw [nI_clamp (by omega), L0, ta_p1, ta_p2, ta_p3, nI_clamp (by omega), nI_clamp (by omega), nI_clamp (by omega), L1, L2, L3]
  exact ⟨ta_vi (by omega), nm_e (br_t (nI_lt (b := 11) (by omega) (by decide)) (br_t (nI_lt (b := 7) (by omega) (by decide)) ⟨ta_vi (by omega), ta_vi (by omega), ta_vi (by omega), h⟩))⟩
theorem ta_xs2 {e o a c : Nat} {bI : Int32} (S : ta_SC bc lc at' pc e o a c bI xL xbf) (h7 : 7 ≤ o) (ho : o < 11) {post : SX → Prop}
    (h : wpX_stackStep (fun r u => match u with | (xmN, xmL, xmD, xmT, xnc, xlc, xbc, xvd, xel, xkd, xke, xqd, xst, xat, xpc, xdp, xtp, xK, xP, xL, xbt, xbf, xR, xB, xQ, xS, xt, xv) => wX_step_134 post xmN xmL xmD xmT xnc xlc xbc xvd xel xkd xke xqd r xat xpc xdp xtp xK xP xL xbt xbf xR xB xQ xS xt xv) (xmN, xmL, nI mD, nI mT, xnc, nI lc, nI bc, xvd, xel, xkd, xke, xqd, 1, nI at', nI pc, nI dp, nI tp, xK, xP, xL, xbt, xbf, xR, xB, xQ, xS, xt, xv) (nI o) (nI a) bI) : wpX_step post (xmN, xmL, nI mD, nI mT, xnc, nI lc, nI bc, xvd, xel, xkd, xke, xqd, 1, nI at', nI pc, nI dp, nI tp, xK, xP, xL, xbt, xbf, xR, xB, xQ, xS, xt, xv) := by
  obtain ⟨pe, el, l40, _, a3, c2, L0, L1, L2, L3, GX, GY⟩ := S
  unfold wpX_step
  refine GX _ ?_
  refine br_t (nI_lt pe (by omega)) (nm_r (ta_4 pc) ?_)
  rw [nI_clamp (by omega), L0, ta_p1, ta_p2, ta_p3, nI_clamp (by omega), nI_clamp (by omega), nI_clamp (by omega), L1, L2, L3]
  exact ⟨ta_vi (by omega), nm_e (br_t (nI_lt (b := 11) (by omega) (by decide)) (br_f (nI_nlt (b := 7) (by omega) (by omega)) ⟨ta_vi (by omega), ta_vi (by omega), h⟩))⟩
theorem ta_xs3 {e o a c : Nat} {bI : Int32} (S : ta_SC bc lc at' pc e o a c bI xL xbf) (h7 : 11 ≤ o) {post : SX → Prop}
    (h : wpX_jump (fun r u => match u with | (xmN, xmL, xmD, xmT, xnc, xlc, xbc, xvd, xel, xkd, xke, xqd, xst, xat, xpc, xdp, xtp, xK, xP, xL, xbt, xbf, xR, xB, xQ, xS, xt, xv) => post (xmN, xmL, xmD, xmT, xnc, xlc, xbc, xvd, xel, xkd, xke, xqd, r, xat, xpc, xdp, xtp, xK, xP, xL, xbt, xbf, xR, xB, xQ, xS, xt, xv)) (xmN, xmL, nI mD, nI mT, xnc, nI lc, nI bc, xvd, xel, xkd, xke, xqd, 1, nI at', nI pc, nI dp, nI tp, xK, xP, xL, xbt, xbf, xR, xB, xQ, xS, xt, xv) (nI o) (nI a) bI) : wpX_step post (xmN, xmL, nI mD, nI mT, xnc, nI lc, nI bc, xvd, xel, xkd, xke, xqd, 1, nI at', nI pc, nI dp, nI tp, xK, xP, xL, xbt, xbf, xR, xB, xQ, xS, xt, xv) := by
  obtain ⟨pe, el, l40, o14, a3, c2, L0, L1, L2, L3, GX, GY⟩ := S
  unfold wpX_step
  refine GX _ ?_
  refine br_t (nI_lt pe (by omega)) (nm_r (ta_4 pc) ?_)
  rw [nI_clamp (by omega), L0, ta_p1, ta_p2, ta_p3, nI_clamp (by omega), nI_clamp (by omega), nI_clamp (by omega), L1, L2, L3]
  exact ⟨ta_vi (by omega), nm_e (br_f (nI_nlt (b := 11) (by omega) (by omega)) ⟨ta_vi (by omega), ta_vi (by omega), h⟩)⟩
theorem ta_ys {e o a c : Nat} {bI : Int32} (S : ta_SC bc lc at' pc e o a c bI xL xbf) {post : Int32 → SY → Prop}
    (h : ∀ f6 f7 z0 : Int32, ta_fl f6 (o = 3 ∨ o = 6 ∨ o = 7 ∨ o = 10 ∨ o = 11 ∨ o = 13 ∨ o = 14) → ta_fl f7 (o = 2 ∨ o = 3 ∨ o = 5 ∨ o = 6) → ((o = 2 ∨ o = 3 ∨ o = 5 ∨ o = 6) → z0 = bI) → wY_step_100 post (nI o) (nI a) bI (nI c) f6 f7 z0 ync ytop (nI bc) (nI lc) yvd yel yst (nI at') (nI pc) (nI dp) (nI tp) ykd yke ymN ymL (nI mD) (nI mT) yT yI yW xL ybt xbf yt yv) : wpY_step post (ync, ytop, nI bc, nI lc, yvd, yel, yst, nI at', nI pc, nI dp, nI tp, ykd, yke, ymN, ymL, nI mD, nI mT, yT, yI, yW, xL, ybt, xbf, yt, yv) := by
  obtain ⟨pe, el, l40, o14, a3, c2, L0, L1, L2, L3, GX, GY⟩ := S
  unfold wpY_step
  refine GY _ ?_
  refine br_t (nI_lt pe (by omega)) ?_
  rw [ta_4, nI_clamp (by omega), L0, ta_p1, ta_p2, ta_p3, nI_clamp (by omega), nI_clamp (by omega), nI_clamp (by omega), L1, L2, L3]
  refine ⟨ta_vi (by omega), nm_e ⟨ta_vi (by omega), nm_e ⟨ta_vi (by omega), nm_e ⟨ta_vi (by omega), nm_e ?_⟩⟩⟩⟩
  have fin : ∀ f6 : Int32, ta_fl f6 (o = 3 ∨ o = 6 ∨ o = 7 ∨ o = 10 ∨ o = 11 ∨ o = 13 ∨ o = 14) → wpY_usesB (fun r_62 => (((r_62 = 0 → (wY_step_100 post (nI o) (nI a) bI (nI c) f6 r_62 0 ync ytop (nI bc) (nI lc) yvd yel yst (nI at') (nI pc) (nI dp) (nI tp) ykd yke ymN ymL (nI mD) (nI mT) yT yI yW xL ybt xbf yt yv)) ∧ (¬ r_62 = 0 → (wY_step_100 post (nI o) (nI a) bI (nI c) f6 r_62 bI ync ytop (nI bc) (nI lc) yvd yel yst (nI at') (nI pc) (nI dp) (nI tp) ykd yke ymN ymL (nI mD) (nI mT) yT yI yW xL ybt xbf yt yv))))) (ync, ytop, nI bc, nI lc, yvd, yel, yst, nI at', nI pc, nI dp, nI tp, ykd, yke, ymN, ymL, nI mD, nI mT, yT, yI, yW, xL, ybt, xbf, yt, yv) (nI o) := by
    intro f6 g6
    exact ta_yuB o14 (fun z => br_f (by decide) (h f6 1 bI g6 (Or.inr ⟨rfl, z⟩) (fun _ => rfl))) (fun z => br_t rfl (h f6 0 0 g6 (Or.inl ⟨rfl, z⟩) (fun w => absurd w z)))
  exact ta_yuA o14 (fun z => fin 1 (Or.inr ⟨rfl, z⟩)) (fun z => fin 0 (Or.inl ⟨rfl, z⟩))
theorem ta_x134 {post : SX → Prop} (hp : post (xmN, xmL, xmD, xmT, xnc, xlc, xbc, xvd, xel, xkd, xke, xqd, 1, xat, nI (pc + 1), xdp, xtp, xK, xP, xL, xbt, xbf, xR, xB, xQ, xS, xt, xv)) : wX_step_134 post xmN xmL xmD xmT xnc xlc xbc xvd xel xkd xke xqd 1 xat (nI pc) xdp xtp xK xP xL xbt xbf xR xB xQ xS xt xv := br_t rfl (nm_r (nI_1 pc) hp)
theorem ta_xmove {i j : Nat} (hi : i < 51) (hj : j < 51) (h : ¬ xt i = nI 0) {post : Int32 → SX → Prop} (hp : post 1 (xmN, xmL, xmD, xmT, xnc, xlc, xbc, xvd, xel, xkd, xke, xqd, xst, xat, xpc, xdp, xtp, xK, xP, xL, xbt, xbf, xR, xB, xQ, xS, upd xt j (xt i), upd xv j (xv i))) : wpX_move post (xmN, xmL, xmD, xmT, xnc, xlc, xbc, xvd, xel, xkd, xke, xqd, xst, xat, xpc, xdp, xtp, xK, xP, xL, xbt, xbf, xR, xB, xQ, xS, xt, xv) (nI i) (nI j) := by
  unfold wpX_move
  refine ⟨ta_vi hi, ?_⟩
  rw [nI_clamp (by omega)]
  exact br_f h ⟨ta_vi hi, ta_vi hi, ta_xput hj hp⟩
theorem ta_xmove0 {i : Nat} {j : Int32} (hi : i < 51) (h : xt i = nI 0) {post : Int32 → SX → Prop} (hp : post 3 (xmN, xmL, xmD, xmT, xnc, xlc, xbc, xvd, xel, xkd, xke, xqd, xst, xat, xpc, xdp, xtp, xK, xP, xL, xbt, xbf, xR, xB, xQ, xS, xt, xv)) : wpX_move post (xmN, xmL, xmD, xmT, xnc, xlc, xbc, xvd, xel, xkd, xke, xqd, xst, xat, xpc, xdp, xtp, xK, xP, xL, xbt, xbf, xR, xB, xQ, xS, xt, xv) (nI i) j := by
  unfold wpX_move
  refine ⟨ta_vi hi, ?_⟩
  rw [nI_clamp (by omega)]
  exact br_t h hp
theorem ta_xgo {l f : Nat} (hl : l < bc) (b8 : bc ≤ 8) (ef : xbf l = nI f) {post : Int32 → SX → Prop} (hp : post 1 (xmN, xmL, xmD, xmT, xnc, xlc, nI bc, xvd, xel, xkd, xke, xqd, xst, nI l, nI f, xdp, xtp, xK, xP, xL, xbt, xbf, xR, xB, xQ, xS, xt, xv)) : wpX_goTo post (xmN, xmL, xmD, xmT, xnc, xlc, nI bc, xvd, xel, xkd, xke, xqd, xst, xat, xpc, xdp, xtp, xK, xP, xL, xbt, xbf, xR, xB, xQ, xS, xt, xv) (nI l) := by
  unfold wpX_goTo
  refine br_f (nI_pos (by omega)) (br_t (nI_lt hl (by omega)) ⟨ta_vi (by omega), nm_r (e' := nI f) (by rw [nI_clamp (by omega), ef]) hp⟩)
theorem ta_xgo0 {l : Nat} (hl : bc ≤ l) (h8 : l < 2 ^ 31) {post : Int32 → SX → Prop} (hp : post 3 (xmN, xmL, xmD, xmT, xnc, xlc, nI bc, xvd, xel, xkd, xke, xqd, xst, xat, xpc, xdp, xtp, xK, xP, xL, xbt, xbf, xR, xB, xQ, xS, xt, xv)) : wpX_goTo post (xmN, xmL, xmD, xmT, xnc, xlc, nI bc, xvd, xel, xkd, xke, xqd, xst, xat, xpc, xdp, xtp, xK, xP, xL, xbt, xbf, xR, xB, xQ, xS, xt, xv) (nI l) := by
  unfold wpX_goTo
  exact br_f (nI_pos h8) (br_f (nI_nlt hl h8) hp)
theorem ta_ygo {l f : Nat} (hl : l < 8) (ef : ybf l = nI f) {post : Int32 → SY → Prop} (hp : post 1 (ync, ytop, ybc, ylc, yvd, yel, yst, nI l, nI f, ydp, ytp, ykd, yke, ymN, ymL, ymD, ymT, yT, yI, yW, yL, ybt, ybf, yt, yv)) : wY_step_783 post (nI l) ync ytop ybc ylc yvd yel yst yat (nI pc) ydp ytp ykd yke ymN ymL ymD ymT yT yI yW yL ybt ybf yt yv := by
  unfold wY_step_783
  exact nm_r (nI_1 pc) (br_f (nI_pos (by omega)) ⟨ta_vi hl, nm_r (e' := nI f) (by rw [nI_clamp (by omega), ef]) hp⟩)
theorem ta_ygo0 {post : Int32 → SY → Prop} (hp : post 1 (ync, ytop, ybc, ylc, yvd, yel, yst, yat, nI (pc + 1), ydp, ytp, ykd, yke, ymN, ymL, ymD, ymT, yT, yI, yW, yL, ybt, ybf, yt, yv)) : wY_step_783 post (-1) ync ytop ybc ylc yvd yel yst yat (nI pc) ydp ytp ykd yke ymN ymL ymD ymT yT yI yW yL ybt ybf yt yv := by
  unfold wY_step_783
  exact nm_r (nI_1 pc) (br_t (by decide) hp)
end
end
section
/-! the machine: one step -/
section
variable {xmN xmL xmD xmT xnc xlc xbc xvd xel xkd xke xqd xst xat xpc xdp xtp : Int32} {xK xP xL xbt xbf xR xB xQ xS xt xv : Nat → Int32}
variable {ync ytop ybc ylc yvd yel yst yat ypc ydp ytp ykd yke ymN ymL ymD ymT : Int32} {yT yI yW yL ybt ybf yt yv : Nat → Int32}
variable {mD mT bc lc dp tp at' pc e a b c : Nat}
theorem ta_yset_e {i : Nat} {x : Int32} (hi : i < 51) (e : x = nI i) {p1 p2 : Int32} {post : SY → Prop} (hp : post (ync, ytop, ybc, ylc, yvd, yel, yst, yat, ypc, ydp, ytp, ykd, yke, ymN, ymL, ymD, ymT, yT, yI, yW, yL, ybt, ybf, upd yt i p1, upd yv i p2)) : wpY_set post (ync, ytop, ybc, ylc, yvd, yel, yst, yat, ypc, ydp, ytp, ykd, yke, ymN, ymL, ymD, ymT, yT, yI, yW, yL, ybt, ybf, yt, yv) x p1 p2 := by
  rw [e]; exact ta_yset hi hp
theorem ta_xput_e {i : Nat} {x : Int32} (hi : i < 51) (e : x = nI i) {p1 p2 : Int32} {post : Int32 → SX → Prop} (hp : post 1 (xmN, xmL, xmD, xmT, xnc, xlc, xbc, xvd, xel, xkd, xke, xqd, xst, xat, xpc, xdp, xtp, xK, xP, xL, xbt, xbf, xR, xB, xQ, xS, upd xt i p1, upd xv i p2)) : wpX_put post (xmN, xmL, xmD, xmT, xnc, xlc, xbc, xvd, xel, xkd, xke, xqd, xst, xat, xpc, xdp, xtp, xK, xP, xL, xbt, xbf, xR, xB, xQ, xS, xt, xv) x p1 p2 := by
  rw [e]; exact ta_xput hi hp
theorem ta_st0 (M : ta_MA mD mT bc lc dp tp at' pc xt xv yt yv) (b8 : bc ≤ 8) {bI : Int32} (S : ta_SC bc lc at' pc e 0 a c bI xL xbf) : ta_SO mD mT bc lc dp tp at' pc xL xbf xt xv yt yv := by
  have ⟨pe, el, l40, _, a3, c2, _⟩ := S
  have ⟨d24, t12, dd, tt, a8, pl, mr, ms, mh⟩ := M
  have ⟨ta, va, ca⟩ := mr a a3
  refine ⟨1, at', pc + 1, dp, tp, upd xt a 1, upd xv a bI, upd yt a 1, upd yv a bI, ta_MA_at (ta_MA_reg M a3 (ta_CO0 (by decide) (by decide))) a8 (by omega), fun post hp => ?_, fun post hp => ta_ys S (fun f6 f7 z0 g6 g7 gz => ?_)⟩
  · refine ta_xs1 S (by omega) ?_
    unfold wpX_plainStep
    refine br_f (by decide) (br_f (by decide) (br_t rfl (ta_xput (by omega) ?_)))
    exact ta_x134 hp
  · unfold wY_step_100
    refine ta_fl_br g6 (fun _ => ?_) (fun z => absurd z (by decide))
    unfold wY_step_116
    refine ta_fl_br g7 (fun _ => ?_) (fun z => absurd z (by decide))
    unfold wY_step_133
    refine br_f (by decide) ?_
    unfold wY_step_149
    refine br_f (by decide) (br_f (by decide) (br_f (by decide) ?_))
    unfold wY_step_178
    refine ta_yuL (o := 0) (by omega) (fun z => absurd z (by decide)) (fun _ => br_t rfl ?_)
    unfold wY_step_195
    refine ta_yuC (o := 0) (by omega) (fun z => absurd z (by decide)) (fun _ => br_t rfl ?_)
    unfold wY_step_214
    refine br_f (by decide) ?_
    unfold wY_step_230
    refine br_f (by decide) ?_
    unfold wY_step_246
    refine br_f (by decide) ?_
    unfold wY_step_264
    refine br_f (by decide) (br_f (by decide) ?_)
    unfold wY_step_301
    refine nm_e ?_
    refine br_f (by decide) ?_
    unfold wY_step_322
    refine br_f (by decide) ?_
    unfold wY_step_338
    refine br_f (by decide) ?_
    unfold wY_step_357
    refine br_f (by decide) (br_t rfl (ta_yset (i := a) (by omega) ?_))
    unfold wY_step_377
    refine br_f (by decide) ?_
    unfold wY_step_390
    refine br_f (by decide) ?_
    unfold wY_step_414
    refine br_f (by decide) ?_
    unfold wY_step_439
    refine br_f (by decide) ?_
    unfold wY_step_494
    refine br_f (by decide) ?_
    unfold wY_step_518
    refine br_f (by decide) ?_
    unfold wY_step_544
    refine br_f (by decide) ?_
    unfold wY_step_620
    refine br_f (by decide) (br_f (by decide) ?_)
    unfold wY_step_655
    refine br_f (by decide) ?_
    unfold wY_step_681
    refine br_f (by decide) ?_
    unfold wY_step_741
    refine br_f (by decide) (br_f (by decide) ?_)
    unfold wY_step_767
    refine br_f (by decide) ?_
    exact ta_ygo0 hp
theorem ta_st1 (M : ta_MA mD mT bc lc dp tp at' pc xt xv yt yv) (b8 : bc ≤ 8) (hb8 : b < 8) (S : ta_SC bc lc at' pc e 1 a c (nI b) xL xbf) : ta_SO mD mT bc lc dp tp at' pc xL xbf xt xv yt yv := by
  have ⟨pe, el, l40, _, a3, c2, _⟩ := S
  have ⟨d24, t12, dd, tt, a8, pl, mr, ms, mh⟩ := M
  have ⟨ta, va, ca⟩ := mr a a3
  by_cases hl : b < bc
  · refine ⟨1, at', pc + 1, dp, tp, upd xt a 2, upd xv a (nI b), upd yt a 2, upd yv a (nI b), ta_MA_at (ta_MA_reg M a3 ⟨fun _ => ⟨b, rfl, hl⟩, fun z => absurd z (by decide)⟩) a8 (by omega), fun post hp => ?_, fun post hp => ta_ys S (fun f6 f7 z0 g6 g7 gz => ?_)⟩
    · refine ta_xs1 S (by omega) ?_
      unfold wpX_plainStep
      refine br_f (by decide) (br_f (by decide) (br_f (by decide) (br_t rfl (br_t (nI_lt hl (by omega)) (ta_xput (by omega) ?_)))))
      exact ta_x134 hp
    · unfold wY_step_100
      refine ta_fl_br g6 (fun _ => ?_) (fun z => absurd z (by decide))
      unfold wY_step_116
      refine ta_fl_br g7 (fun _ => ?_) (fun z => absurd z (by decide))
      unfold wY_step_133
      refine br_f (by decide) ?_
      unfold wY_step_149
      refine br_f (by decide) (br_f (by decide) (br_f (by decide) ?_))
      unfold wY_step_178
      refine ta_yuL (o := 1) (by omega) (fun _ => br_f (by decide) (br_f (nI_ge hl (by omega)) ?_)) (fun z => absurd (by decide) z)
      unfold wY_step_195
      refine ta_yuC (o := 1) (by omega) (fun z => absurd z (by decide)) (fun _ => br_t rfl ?_)
      unfold wY_step_214
      refine br_f (by decide) ?_
      unfold wY_step_230
      refine br_f (by decide) ?_
      unfold wY_step_246
      refine br_f (by decide) ?_
      unfold wY_step_264
      refine br_f (by decide) (br_f (by decide) ?_)
      unfold wY_step_301
      refine nm_e ?_
      refine br_f (by decide) ?_
      unfold wY_step_322
      refine br_f (by decide) ?_
      unfold wY_step_338
      refine br_f (by decide) ?_
      unfold wY_step_357
      refine br_f (by decide) (br_f (by decide) ?_)
      unfold wY_step_377
      refine br_t rfl (ta_yset (i := a) (by omega) ?_)
      unfold wY_step_390
      refine br_f (by decide) ?_
      unfold wY_step_414
      refine br_f (by decide) ?_
      unfold wY_step_439
      refine br_f (by decide) ?_
      unfold wY_step_494
      refine br_f (by decide) ?_
      unfold wY_step_518
      refine br_f (by decide) ?_
      unfold wY_step_544
      refine br_f (by decide) ?_
      unfold wY_step_620
      refine br_f (by decide) (br_f (by decide) ?_)
      unfold wY_step_655
      refine br_f (by decide) ?_
      unfold wY_step_681
      refine br_f (by decide) ?_
      unfold wY_step_741
      refine br_f (by decide) (br_f (by decide) ?_)
      unfold wY_step_767
      refine br_f (by decide) ?_
      exact ta_ygo0 hp
  · refine ⟨3, at', pc, dp, tp, xt, xv, yt, yv, M, fun post hp => ?_, fun post hp => ta_ys S (fun f6 f7 z0 g6 g7 gz => ?_)⟩
    · refine ta_xs1 S (by omega) ?_
      unfold wpX_plainStep
      refine br_f (by decide) (br_f (by decide) (br_f (by decide) (br_t rfl (br_f (nI_nlt (by omega) (by omega)) ?_))))
      exact br_f (by decide) hp
    · unfold wY_step_100
      refine ta_fl_br g6 (fun _ => ?_) (fun z => absurd z (by decide))
      unfold wY_step_116
      refine ta_fl_br g7 (fun _ => ?_) (fun z => absurd z (by decide))
      unfold wY_step_133
      refine br_f (by decide) ?_
      unfold wY_step_149
      refine br_f (by decide) (br_f (by decide) (br_f (by decide) ?_))
      unfold wY_step_178
      exact ta_yuL (o := 1) (by omega) (fun _ => br_f (by decide) (br_t (nI_le (by omega) (by omega)) hp)) (fun z => absurd (by decide) z)
theorem ta_st2 (M : ta_MA mD mT bc lc dp tp at' pc xt xv yt yv) (b8 : bc ≤ 8) (b3 : b < 3) (S : ta_SC bc lc at' pc e 2 a c (nI b) xL xbf) : ta_SO mD mT bc lc dp tp at' pc xL xbf xt xv yt yv := by
  have ⟨pe, el, l40, _, a3, c2, _⟩ := S
  have ⟨d24, t12, dd, tt, a8, pl, mr, ms, mh⟩ := M
  have ⟨ta, va, ca⟩ := mr a a3
  have ⟨tb, vb, cb⟩ := mr b b3
  by_cases h0 : xt b = nI 0
  · refine ⟨3, at', pc, dp, tp, xt, xv, yt, yv, M, fun post hp => ?_, fun post hp => ta_ys S (fun f6 f7 z0 g6 g7 gz => ?_)⟩
    · refine ta_xs1 S (by omega) ?_
      unfold wpX_plainStep
      refine br_f (by decide) (br_f (by decide) (br_f (by decide) (br_f (by decide) (br_t rfl (ta_xmove0 (by omega) h0 ?_)))))
      exact br_f (by decide) hp
    · have gz' := gz (by decide)
      subst gz'
      unfold wY_step_100
      refine ta_fl_br g6 (fun _ => ?_) (fun z => absurd z (by decide))
      unfold wY_step_116
      exact ta_fl_br g7 (fun z => absurd (by decide) z) (fun _ => ta_rdt (by omega) (tb.trans h0) hp)
  · refine ⟨1, at', pc + 1, dp, tp, upd xt a (xt b), upd xv a (xv b), upd yt a (yt b), upd yv a (yv b), by rw [tb, vb]; exact ta_MA_at (ta_MA_reg M a3 cb) a8 (by omega), fun post hp => ?_, fun post hp => ta_ys S (fun f6 f7 z0 g6 g7 gz => ?_)⟩
    · refine ta_xs1 S (by omega) ?_
      unfold wpX_plainStep
      refine br_f (by decide) (br_f (by decide) (br_f (by decide) (br_f (by decide) (br_t rfl (ta_xmove (by omega) (by omega) h0 ?_)))))
      exact ta_x134 hp
    · have gz' := gz (by decide)
      subst gz'
      unfold wY_step_100
      refine ta_fl_br g6 (fun _ => ?_) (fun z => absurd z (by decide))
      unfold wY_step_116
      refine ta_fl_br g7 (fun z => absurd (by decide) z) (fun _ => ta_rdf (by omega) (fun z => h0 (tb.symm.trans z)) ?_)
      unfold wY_step_133
      refine br_f (by decide) ?_
      unfold wY_step_149
      refine br_f (by decide) (br_f (by decide) (br_f (by decide) ?_))
      unfold wY_step_178
      refine ta_yuL (o := 2) (by omega) (fun z => absurd z (by decide)) (fun _ => br_t rfl ?_)
      unfold wY_step_195
      refine ta_yuC (o := 2) (by omega) (fun z => absurd z (by decide)) (fun _ => br_t rfl ?_)
      unfold wY_step_214
      refine br_f (by decide) ?_
      unfold wY_step_230
      refine br_f (by decide) ?_
      unfold wY_step_246
      refine br_f (by decide) ?_
      unfold wY_step_264
      refine br_f (by decide) (br_f (by decide) ?_)
      unfold wY_step_301
      refine nm_e ?_
      refine br_f (by decide) ?_
      unfold wY_step_322
      refine br_f (by decide) ?_
      unfold wY_step_338
      refine br_f (by decide) ?_
      unfold wY_step_357
      refine br_f (by decide) (br_f (by decide) ?_)
      unfold wY_step_377
      refine br_f (by decide) ?_
      unfold wY_step_390
      refine br_t rfl ⟨ta_vi (by omega), ta_vi (by omega), ?_⟩
      rw [nI_clamp (by omega)]
      refine ta_yset (i := a) (by omega) ?_
      unfold wY_step_414
      refine br_f (by decide) ?_
      unfold wY_step_439
      refine br_f (by decide) ?_
      unfold wY_step_494
      refine br_f (by decide) ?_
      unfold wY_step_518
      refine br_f (by decide) ?_
      unfold wY_step_544
      refine br_f (by decide) ?_
      unfold wY_step_620
      refine br_f (by decide) (br_f (by decide) ?_)
      unfold wY_step_655
      refine br_f (by decide) ?_
      unfold wY_step_681
      refine br_f (by decide) ?_
      unfold wY_step_741
      refine br_f (by decide) (br_f (by decide) ?_)
      unfold wY_step_767
      refine br_f (by decide) ?_
      exact ta_ygo0 hp
theorem ta_st3 (M : ta_MA mD mT bc lc dp tp at' pc xt xv yt yv) (b8 : bc ≤ 8) (b3 : b < 3) (S : ta_SC bc lc at' pc e 3 a c (nI b) xL xbf) : ta_SO mD mT bc lc dp tp at' pc xL xbf xt xv yt yv := by
  have ⟨pe, el, l40, _, a3, c2, _⟩ := S
  have ⟨d24, t12, dd, tt, a8, pl, mr, ms, mh⟩ := M
  have ⟨ta, va, ca⟩ := mr a a3
  have ⟨tb, vb, cb⟩ := mr b b3
  by_cases h1 : xt a = nI 1
  · by_cases h2 : xt b = nI 1
    · refine ⟨1, at', pc + 1, dp, tp, upd xt a 1, upd xv a (xv a + xv b), upd yt a 1, upd yv a (yv a + yv b), by rw [va, vb]; exact ta_MA_at (ta_MA_reg M a3 (ta_CO0 (by decide) (by decide))) a8 (by omega), fun post hp => ?_, fun post hp => ta_ys S (fun f6 f7 z0 g6 g7 gz => ?_)⟩
      · refine ta_xs1 S (by omega) ?_
        unfold wpX_plainStep
        refine br_f (by decide) (br_f (by decide) (br_f (by decide) (br_f (by decide) (br_f (by decide) (br_t rfl (ta_rdt (by omega) h1 (ta_rdt (by omega) h2 ⟨ta_vi (by omega), ta_vi (by omega), ?_⟩)))))))
        rw [nI_clamp (n := a) (by omega), nI_clamp (n := b) (by omega)]
        refine ta_xput (by omega) ?_
        exact ta_x134 hp
      · have gz' := gz (by decide)
        subst gz'
        unfold wY_step_100
        refine ta_fl_br g6 (fun z => absurd (by decide) z) (fun _ => ta_rdf (by omega) (by rw [ta, h1]; decide) ?_)
        unfold wY_step_116
        refine ta_fl_br g7 (fun z => absurd (by decide) z) (fun _ => ta_rdf (by omega) (by rw [tb, h2]; decide) ?_)
        unfold wY_step_133
        refine br_t rfl (ta_rdt (by omega) (tb.trans h2) ?_)
        unfold wY_step_149
        refine br_t rfl ?_
        unfold wY_step_166
        refine ta_rdt (by omega) (ta.trans h1) ?_
        unfold wY_step_178
        refine ta_yuL (o := 3) (by omega) (fun z => absurd z (by decide)) (fun _ => br_t rfl ?_)
        unfold wY_step_195
        refine ta_yuC (o := 3) (by omega) (fun z => absurd z (by decide)) (fun _ => br_t rfl ?_)
        unfold wY_step_214
        refine br_f (by decide) ?_
        unfold wY_step_230
        refine br_f (by decide) ?_
        unfold wY_step_246
        refine br_f (by decide) ?_
        unfold wY_step_264
        refine br_f (by decide) (br_f (by decide) ?_)
        unfold wY_step_301
        refine nm_e ?_
        refine br_f (by decide) ?_
        unfold wY_step_322
        refine br_f (by decide) ?_
        unfold wY_step_338
        refine br_f (by decide) ?_
        unfold wY_step_357
        refine br_f (by decide) (br_f (by decide) ?_)
        unfold wY_step_377
        refine br_f (by decide) ?_
        unfold wY_step_390
        refine br_f (by decide) ?_
        unfold wY_step_414
        refine br_t rfl ⟨ta_vi (by omega), ta_vi (by omega), ?_⟩
        rw [nI_clamp (n := a) (by omega), nI_clamp (n := b) (by omega)]
        refine ta_yset (i := a) (by omega) ?_
        unfold wY_step_439
        refine br_f (by decide) ?_
        unfold wY_step_494
        refine br_f (by decide) ?_
        unfold wY_step_518
        refine br_f (by decide) ?_
        unfold wY_step_544
        refine br_f (by decide) ?_
        unfold wY_step_620
        refine br_f (by decide) (br_f (by decide) ?_)
        unfold wY_step_655
        refine br_f (by decide) ?_
        unfold wY_step_681
        refine br_f (by decide) ?_
        unfold wY_step_741
        refine br_f (by decide) (br_f (by decide) ?_)
        unfold wY_step_767
        refine br_f (by decide) ?_
        exact ta_ygo0 hp
    · by_cases h3 : xt b = nI 0
      · refine ⟨3, at', pc, dp, tp, xt, xv, yt, yv, M, fun post hp => ?_, fun post hp => ta_ys S (fun f6 f7 z0 g6 g7 gz => ?_)⟩
        · refine ta_xs1 S (by omega) ?_
          unfold wpX_plainStep
          refine br_f (by decide) (br_f (by decide) (br_f (by decide) (br_f (by decide) (br_f (by decide) (br_t rfl (ta_rdt (by omega) h1 (ta_rdf (by omega) h2 ?_)))))))
          exact br_f (by decide) hp
        · have gz' := gz (by decide)
          subst gz'
          unfold wY_step_100
          refine ta_fl_br g6 (fun z => absurd (by decide) z) (fun _ => ta_rdf (by omega) (by rw [ta, h1]; decide) ?_)
          unfold wY_step_116
          exact ta_fl_br g7 (fun z => absurd (by decide) z) (fun _ => ta_rdt (by omega) (tb.trans h3) hp)
      · refine ⟨3, at', pc, dp, tp, xt, xv, yt, yv, M, fun post hp => ?_, fun post hp => ta_ys S (fun f6 f7 z0 g6 g7 gz => ?_)⟩
        · refine ta_xs1 S (by omega) ?_
          unfold wpX_plainStep
          refine br_f (by decide) (br_f (by decide) (br_f (by decide) (br_f (by decide) (br_f (by decide) (br_t rfl (ta_rdt (by omega) h1 (ta_rdf (by omega) h2 ?_)))))))
          exact br_f (by decide) hp
        · have gz' := gz (by decide)
          subst gz'
          unfold wY_step_100
          refine ta_fl_br g6 (fun z => absurd (by decide) z) (fun _ => ta_rdf (by omega) (by rw [ta, h1]; decide) ?_)
          unfold wY_step_116
          refine ta_fl_br g7 (fun z => absurd (by decide) z) (fun _ => ta_rdf (by omega) (fun z => h3 (tb.symm.trans z)) ?_)
          unfold wY_step_133
          exact br_t rfl (ta_rdf (by omega) (fun z => h2 (tb.symm.trans z)) hp)
  · by_cases h4 : xt a = nI 0
    · refine ⟨3, at', pc, dp, tp, xt, xv, yt, yv, M, fun post hp => ?_, fun post hp => ta_ys S (fun f6 f7 z0 g6 g7 gz => ?_)⟩
      · refine ta_xs1 S (by omega) ?_
        unfold wpX_plainStep
        refine br_f (by decide) (br_f (by decide) (br_f (by decide) (br_f (by decide) (br_f (by decide) (br_t rfl (ta_rdf (by omega) h1 ?_))))))
        exact br_f (by decide) hp
      · have gz' := gz (by decide)
        subst gz'
        unfold wY_step_100
        exact ta_fl_br g6 (fun z => absurd (by decide) z) (fun _ => ta_rdt (by omega) (ta.trans h4) hp)
    · by_cases h3 : xt b = nI 0
      · refine ⟨3, at', pc, dp, tp, xt, xv, yt, yv, M, fun post hp => ?_, fun post hp => ta_ys S (fun f6 f7 z0 g6 g7 gz => ?_)⟩
        · refine ta_xs1 S (by omega) ?_
          unfold wpX_plainStep
          refine br_f (by decide) (br_f (by decide) (br_f (by decide) (br_f (by decide) (br_f (by decide) (br_t rfl (ta_rdf (by omega) h1 ?_))))))
          exact br_f (by decide) hp
        · have gz' := gz (by decide)
          subst gz'
          unfold wY_step_100
          refine ta_fl_br g6 (fun z => absurd (by decide) z) (fun _ => ta_rdf (by omega) (fun z => h4 (ta.symm.trans z)) ?_)
          unfold wY_step_116
          exact ta_fl_br g7 (fun z => absurd (by decide) z) (fun _ => ta_rdt (by omega) (tb.trans h3) hp)
      · by_cases h2 : xt b = nI 1
        · refine ⟨3, at', pc, dp, tp, xt, xv, yt, yv, M, fun post hp => ?_, fun post hp => ta_ys S (fun f6 f7 z0 g6 g7 gz => ?_)⟩
          · refine ta_xs1 S (by omega) ?_
            unfold wpX_plainStep
            refine br_f (by decide) (br_f (by decide) (br_f (by decide) (br_f (by decide) (br_f (by decide) (br_t rfl (ta_rdf (by omega) h1 ?_))))))
            exact br_f (by decide) hp
          · have gz' := gz (by decide)
            subst gz'
            unfold wY_step_100
            refine ta_fl_br g6 (fun z => absurd (by decide) z) (fun _ => ta_rdf (by omega) (fun z => h4 (ta.symm.trans z)) ?_)
            unfold wY_step_116
            refine ta_fl_br g7 (fun z => absurd (by decide) z) (fun _ => ta_rdf (by omega) (fun z => h3 (tb.symm.trans z)) ?_)
            unfold wY_step_133
            refine br_t rfl (ta_rdt (by omega) (tb.trans h2) ?_)
            unfold wY_step_149
            refine br_t rfl ?_
            unfold wY_step_166
            exact ta_rdf (by omega) (fun z => h1 (ta.symm.trans z)) hp
        · refine ⟨3, at', pc, dp, tp, xt, xv, yt, yv, M, fun post hp => ?_, fun post hp => ta_ys S (fun f6 f7 z0 g6 g7 gz => ?_)⟩
          · refine ta_xs1 S (by omega) ?_
            unfold wpX_plainStep
            refine br_f (by decide) (br_f (by decide) (br_f (by decide) (br_f (by decide) (br_f (by decide) (br_t rfl (ta_rdf (by omega) h1 ?_))))))
            exact br_f (by decide) hp
          · have gz' := gz (by decide)
            subst gz'
            unfold wY_step_100
            refine ta_fl_br g6 (fun z => absurd (by decide) z) (fun _ => ta_rdf (by omega) (fun z => h4 (ta.symm.trans z)) ?_)
            unfold wY_step_116
            refine ta_fl_br g7 (fun z => absurd (by decide) z) (fun _ => ta_rdf (by omega) (fun z => h3 (tb.symm.trans z)) ?_)
            unfold wY_step_133
            exact br_t rfl (ta_rdf (by omega) (fun z => h2 (tb.symm.trans z)) hp)
theorem ta_st4 (M : ta_MA mD mT bc lc dp tp at' pc xt xv yt yv) (b8 : bc ≤ 8) {bI : Int32} (S : ta_SC bc lc at' pc e 4 a c bI xL xbf) : ta_SO mD mT bc lc dp tp at' pc xL xbf xt xv yt yv := by
  have ⟨pe, el, l40, _, a3, c2, _⟩ := S
  have ⟨d24, t12, dd, tt, a8, pl, mr, ms, mh⟩ := M
  have ⟨ta, va, ca⟩ := mr a a3
  by_cases ht : tp < mT
  · refine ⟨1, at', pc + 1, dp, tp + 1, upd (upd (upd xt (27 + 2 * tp) 0) (27 + 2 * tp + 1) 0) a 3, upd (upd (upd xv (27 + 2 * tp) 0) (27 + 2 * tp + 1) 0) a (nI tp), upd (upd (upd yt a 3) (27 + 2 * tp) 0) (28 + 2 * tp) 0, upd (upd (upd yv a (nI tp)) (27 + 2 * tp) 0) (28 + 2 * tp) 0, ta_MA_at (ta_MA_new M ht a3) a8 (by omega), fun post hp => ?_, fun post hp => ta_ys S (fun f6 f7 z0 g6 g7 gz => ?_)⟩
    · refine ta_xs1 S (by omega) ?_
      unfold wpX_plainStep
      refine br_f (by decide) (br_f (by decide) (br_f (by decide) (br_f (by decide) (br_f (by decide) (br_f (by decide) (br_t rfl ?_))))))
      unfold wpX_makeTuple
      refine br_t (nI_lt ht (by omega)) (nm_r (e' := nI (27 + 2 * tp)) (by rw [ta_l2, ta_l27, pk_mul, nI_add]) ?_)
      refine ta_xput (by omega) ?_
      refine ta_xput_e (i := 27 + 2 * tp + 1) (by omega) (nI_1 _) ?_
      refine nm_r (nI_1 tp) ?_
      refine ta_xput (by omega) ?_
      rw [← nI_pred tp] at hp
      exact ta_x134 hp
    · unfold wY_step_100
      refine ta_fl_br g6 (fun _ => ?_) (fun z => absurd z (by decide))
      unfold wY_step_116
      refine ta_fl_br g7 (fun _ => ?_) (fun z => absurd z (by decide))
      unfold wY_step_133
      refine br_f (by decide) ?_
      unfold wY_step_149
      refine br_f (by decide) (br_f (by decide) (br_f (by decide) ?_))
      unfold wY_step_178
      refine ta_yuL (o := 4) (by omega) (fun z => absurd z (by decide)) (fun _ => br_t rfl ?_)
      unfold wY_step_195
      refine ta_yuC (o := 4) (by omega) (fun z => absurd z (by decide)) (fun _ => br_t rfl ?_)
      unfold wY_step_214
      refine br_f (by decide) ?_
      unfold wY_step_230
      refine br_f (by decide) ?_
      unfold wY_step_246
      refine br_f (by decide) ?_
      unfold wY_step_264
      refine br_f (by decide) (br_f (by decide) ?_)
      unfold wY_step_301
      refine nm_e ?_
      refine br_f (by decide) ?_
      unfold wY_step_322
      refine br_t rfl (br_f (nI_ge ht (by omega)) ?_)
      unfold wY_step_338
      refine br_f (by decide) ?_
      unfold wY_step_357
      refine br_f (by decide) (br_f (by decide) ?_)
      unfold wY_step_377
      refine br_f (by decide) ?_
      unfold wY_step_390
      refine br_f (by decide) ?_
      unfold wY_step_414
      refine br_f (by decide) ?_
      unfold wY_step_439
      refine br_t rfl (ta_yset (i := a) (by omega) ?_)
      refine ta_yset_e (i := 27 + 2 * tp) (by omega) (by rw [ta_l2, ta_l27, pk_mul, nI_add]) ?_
      refine ta_yset_e (i := 28 + 2 * tp) (by omega) (by rw [ta_l2, ta_l28, pk_mul, nI_add]) ?_
      refine nm_r (nI_1 tp) ?_
      unfold wY_step_494
      refine br_f (by decide) ?_
      unfold wY_step_518
      refine br_f (by decide) ?_
      unfold wY_step_544
      refine br_f (by decide) ?_
      unfold wY_step_620
      refine br_f (by decide) (br_f (by decide) ?_)
      unfold wY_step_655
      refine br_f (by decide) ?_
      unfold wY_step_681
      refine br_f (by decide) ?_
      unfold wY_step_741
      refine br_f (by decide) (br_f (by decide) ?_)
      unfold wY_step_767
      refine br_f (by decide) ?_
      exact ta_ygo0 hp
  · refine ⟨4, at', pc, dp, tp, xt, xv, yt, yv, M, fun post hp => ?_, fun post hp => ta_ys S (fun f6 f7 z0 g6 g7 gz => ?_)⟩
    · refine ta_xs1 S (by omega) ?_
      unfold wpX_plainStep
      refine br_f (by decide) (br_f (by decide) (br_f (by decide) (br_f (by decide) (br_f (by decide) (br_f (by decide) (br_t rfl ?_))))))
      unfold wpX_makeTuple
      refine br_f (nI_nlt (by omega) (by omega)) ?_
      exact br_f (by decide) hp
    · unfold wY_step_100
      refine ta_fl_br g6 (fun _ => ?_) (fun z => absurd z (by decide))
      unfold wY_step_116
      refine ta_fl_br g7 (fun _ => ?_) (fun z => absurd z (by decide))
      unfold wY_step_133
      refine br_f (by decide) ?_
      unfold wY_step_149
      refine br_f (by decide) (br_f (by decide) (br_f (by decide) ?_))
      unfold wY_step_178
      refine ta_yuL (o := 4) (by omega) (fun z => absurd z (by decide)) (fun _ => br_t rfl ?_)
      unfold wY_step_195
      refine ta_yuC (o := 4) (by omega) (fun z => absurd z (by decide)) (fun _ => br_t rfl ?_)
      unfold wY_step_214
      refine br_f (by decide) ?_
      unfold wY_step_230
      refine br_f (by decide) ?_
      unfold wY_step_246
      refine br_f (by decide) ?_
      unfold wY_step_264
      refine br_f (by decide) (br_f (by decide) ?_)
      unfold wY_step_301
      refine nm_e ?_
      refine br_f (by decide) ?_
      unfold wY_step_322
      exact br_t rfl (br_t (nI_le (by omega) (by omega)) hp)
theorem ta_st5 (M : ta_MA mD mT bc lc dp tp at' pc xt xv yt yv) (b8 : bc ≤ 8) (b3 : b < 3) (S : ta_SC bc lc at' pc e 5 a c (nI b) xL xbf) : ta_SO mD mT bc lc dp tp at' pc xL xbf xt xv yt yv := by
  have ⟨pe, el, l40, _, a3, c2, _⟩ := S
  have ⟨d24, t12, dd, tt, a8, pl, mr, ms, mh⟩ := M
  have ⟨ta, va, ca⟩ := mr a a3
  have ⟨tb, vb, cb⟩ := mr b b3
  by_cases h3 : xt b = nI 3
  · obtain ⟨l, vl, lt⟩ := cb.2 h3
    have ex : (27 : Int32) + 2 * nI l + nI c = nI (27 + (2 * l + c)) := by rw [ta_l2, ta_l27, pk_mul, nI_add, nI_add]; exact congrArg nI (by omega)
    have ey : (27 : Int32) + nI c + 2 * nI l = nI (27 + (2 * l + c)) := by rw [ta_l2, ta_l27, pk_mul, nI_add, nI_add]; exact congrArg nI (by omega)
    obtain ⟨tf, vf, cf⟩ := mh (2 * l + c) (by omega)
    by_cases h0 : xt (27 + (2 * l + c)) = nI 0
    · refine ⟨3, at', pc, dp, tp, xt, xv, yt, yv, M, fun post hp => ?_, fun post hp => ta_ys S (fun f6 f7 z0 g6 g7 gz => ?_)⟩
      · refine ta_xs1 S (by omega) ?_
        unfold wpX_plainStep
        refine br_f (by decide) (br_f (by decide) (br_f (by decide) (br_f (by decide) (br_f (by decide) (br_f (by decide) (br_f (by decide) (br_t rfl (ta_rdt (by omega) h3 ⟨ta_vi (by omega), ?_⟩))))))))
        rw [nI_clamp (n := b) (by omega), vl, ex]
        refine ta_xmove0 (by omega) h0 ?_
        exact br_f (by decide) hp
      · have gz' := gz (by decide)
        subst gz'
        unfold wY_step_100
        refine ta_fl_br g6 (fun _ => ?_) (fun z => absurd z (by decide))
        unfold wY_step_116
        refine ta_fl_br g7 (fun z => absurd (by decide) z) (fun _ => ta_rdf (by omega) (by rw [tb, h3]; decide) ?_)
        unfold wY_step_133
        refine br_f (by decide) ?_
        unfold wY_step_149
        refine br_f (by decide) (br_f (by decide) (br_f (by decide) ?_))
        unfold wY_step_178
        refine ta_yuL (o := 5) (by omega) (fun z => absurd z (by decide)) (fun _ => br_t rfl ?_)
        unfold wY_step_195
        refine ta_yuC (o := 5) (by omega) (fun z => absurd z (by decide)) (fun _ => br_t rfl ?_)
        unfold wY_step_214
        refine br_t rfl (ta_rdt (by omega) (tb.trans h3) ?_)
        unfold wY_step_230
        refine br_f (by decide) ?_
        unfold wY_step_246
        refine br_f (by decide) ?_
        unfold wY_step_264
        refine br_t rfl ⟨ta_vi (by omega), ?_⟩
        unfold wY_step_301
        refine nm_r (e' := nI (27 + (2 * l + c))) (by rw [nI_clamp (by omega)]; exact (by rw [vb, vl]; exact ey)) ?_
        exact br_t rfl (ta_rdt (by omega) (tf.trans h0) hp)
    · refine ⟨1, at', pc + 1, dp, tp, upd xt a (xt (27 + (2 * l + c))), upd xv a (xv (27 + (2 * l + c))), upd yt a (yt (27 + (2 * l + c))), upd yv a (yv (27 + (2 * l + c))), by rw [tf, vf]; exact ta_MA_at (ta_MA_reg M a3 cf) a8 (by omega), fun post hp => ?_, fun post hp => ta_ys S (fun f6 f7 z0 g6 g7 gz => ?_)⟩
      · refine ta_xs1 S (by omega) ?_
        unfold wpX_plainStep
        refine br_f (by decide) (br_f (by decide) (br_f (by decide) (br_f (by decide) (br_f (by decide) (br_f (by decide) (br_f (by decide) (br_t rfl (ta_rdt (by omega) h3 ⟨ta_vi (by omega), ?_⟩))))))))
        rw [nI_clamp (n := b) (by omega), vl, ex]
        refine ta_xmove (by omega) (by omega) h0 ?_
        exact ta_x134 hp
      · have gz' := gz (by decide)
        subst gz'
        unfold wY_step_100
        refine ta_fl_br g6 (fun _ => ?_) (fun z => absurd z (by decide))
        unfold wY_step_116
        refine ta_fl_br g7 (fun z => absurd (by decide) z) (fun _ => ta_rdf (by omega) (by rw [tb, h3]; decide) ?_)
        unfold wY_step_133
        refine br_f (by decide) ?_
        unfold wY_step_149
        refine br_f (by decide) (br_f (by decide) (br_f (by decide) ?_))
        unfold wY_step_178
        refine ta_yuL (o := 5) (by omega) (fun z => absurd z (by decide)) (fun _ => br_t rfl ?_)
        unfold wY_step_195
        refine ta_yuC (o := 5) (by omega) (fun z => absurd z (by decide)) (fun _ => br_t rfl ?_)
        unfold wY_step_214
        refine br_t rfl (ta_rdt (by omega) (tb.trans h3) ?_)
        unfold wY_step_230
        refine br_f (by decide) ?_
        unfold wY_step_246
        refine br_f (by decide) ?_
        unfold wY_step_264
        refine br_t rfl ⟨ta_vi (by omega), ?_⟩
        unfold wY_step_301
        refine nm_r (e' := nI (27 + (2 * l + c))) (by rw [nI_clamp (by omega)]; exact (by rw [vb, vl]; exact ey)) ?_
        refine br_t rfl (ta_rdf (by omega) (fun z => h0 (tf.symm.trans z)) ?_)
        unfold wY_step_322
        refine br_f (by decide) ?_
        unfold wY_step_338
        refine br_f (by decide) ?_
        unfold wY_step_357
        refine br_f (by decide) (br_f (by decide) ?_)
        unfold wY_step_377
        refine br_f (by decide) ?_
        unfold wY_step_390
        refine br_f (by decide) ?_
        unfold wY_step_414
        refine br_f (by decide) ?_
        unfold wY_step_439
        refine br_f (by decide) ?_
        unfold wY_step_494
        refine br_t rfl ⟨ta_vi (by omega), ta_vi (by omega), ?_⟩
        rw [nI_clamp (by omega)]
        refine ta_yset (i := a) (by omega) ?_
        unfold wY_step_518
        refine br_f (by decide) ?_
        unfold wY_step_544
        refine br_f (by decide) ?_
        unfold wY_step_620
        refine br_f (by decide) (br_f (by decide) ?_)
        unfold wY_step_655
        refine br_f (by decide) ?_
        unfold wY_step_681
        refine br_f (by decide) ?_
        unfold wY_step_741
        refine br_f (by decide) (br_f (by decide) ?_)
        unfold wY_step_767
        refine br_f (by decide) ?_
        exact ta_ygo0 hp
  · by_cases h0 : xt b = nI 0
    · refine ⟨3, at', pc, dp, tp, xt, xv, yt, yv, M, fun post hp => ?_, fun post hp => ta_ys S (fun f6 f7 z0 g6 g7 gz => ?_)⟩
      · refine ta_xs1 S (by omega) ?_
        unfold wpX_plainStep
        refine br_f (by decide) (br_f (by decide) (br_f (by decide) (br_f (by decide) (br_f (by decide) (br_f (by decide) (br_f (by decide) (br_t rfl (ta_rdf (by omega) h3 ?_))))))))
        exact br_f (by decide) hp
      · have gz' := gz (by decide)
        subst gz'
        unfold wY_step_100
        refine ta_fl_br g6 (fun _ => ?_) (fun z => absurd z (by decide))
        unfold wY_step_116
        exact ta_fl_br g7 (fun z => absurd (by decide) z) (fun _ => ta_rdt (by omega) (tb.trans h0) hp)
    · refine ⟨3, at', pc, dp, tp, xt, xv, yt, yv, M, fun post hp => ?_, fun post hp => ta_ys S (fun f6 f7 z0 g6 g7 gz => ?_)⟩
      · refine ta_xs1 S (by omega) ?_
        unfold wpX_plainStep
        refine br_f (by decide) (br_f (by decide) (br_f (by decide) (br_f (by decide) (br_f (by decide) (br_f (by decide) (br_f (by decide) (br_t rfl (ta_rdf (by omega) h3 ?_))))))))
        exact br_f (by decide) hp
      · have gz' := gz (by decide)
        subst gz'
        unfold wY_step_100
        refine ta_fl_br g6 (fun _ => ?_) (fun z => absurd z (by decide))
        unfold wY_step_116
        refine ta_fl_br g7 (fun z => absurd (by decide) z) (fun _ => ta_rdf (by omega) (fun z => h0 (tb.symm.trans z)) ?_)
        unfold wY_step_133
        refine br_f (by decide) ?_
        unfold wY_step_149
        refine br_f (by decide) (br_f (by decide) (br_f (by decide) ?_))
        unfold wY_step_178
        refine ta_yuL (o := 5) (by omega) (fun z => absurd z (by decide)) (fun _ => br_t rfl ?_)
        unfold wY_step_195
        refine ta_yuC (o := 5) (by omega) (fun z => absurd z (by decide)) (fun _ => br_t rfl ?_)
        unfold wY_step_214
        exact br_t rfl (ta_rdf (by omega) (fun z => h3 (tb.symm.trans z)) hp)
theorem ta_st6 (M : ta_MA mD mT bc lc dp tp at' pc xt xv yt yv) (b8 : bc ≤ 8) (b3 : b < 3) (S : ta_SC bc lc at' pc e 6 a c (nI b) xL xbf) : ta_SO mD mT bc lc dp tp at' pc xL xbf xt xv yt yv := by
  have ⟨pe, el, l40, _, a3, c2, _⟩ := S
  have ⟨d24, t12, dd, tt, a8, pl, mr, ms, mh⟩ := M
  have ⟨ta, va, ca⟩ := mr a a3
  have ⟨tb, vb, cb⟩ := mr b b3
  by_cases h3 : xt a = nI 3
  · obtain ⟨l, vl, lt⟩ := ca.2 h3
    have ex : (27 : Int32) + 2 * nI l + nI c = nI (27 + (2 * l + c)) := by rw [ta_l2, ta_l27, pk_mul, nI_add, nI_add]; exact congrArg nI (by omega)
    have ey : (27 : Int32) + nI c + 2 * nI l = nI (27 + (2 * l + c)) := by rw [ta_l2, ta_l27, pk_mul, nI_add, nI_add]; exact congrArg nI (by omega)
    by_cases h0 : xt b = nI 0
    · refine ⟨3, at', pc, dp, tp, xt, xv, yt, yv, M, fun post hp => ?_, fun post hp => ta_ys S (fun f6 f7 z0 g6 g7 gz => ?_)⟩
      · refine ta_xs1 S (by omega) ?_
        unfold wpX_plainStep
        refine br_f (by decide) (br_t (by decide) (ta_rdt (by omega) h3 ⟨ta_vi (by omega), ?_⟩))
        rw [nI_clamp (n := a) (by omega), vl, ex]
        refine ta_xmove0 (by omega) h0 ?_
        exact br_f (by decide) hp
      · have gz' := gz (by decide)
        subst gz'
        unfold wY_step_100
        refine ta_fl_br g6 (fun z => absurd (by decide) z) (fun _ => ta_rdf (by omega) (by rw [ta, h3]; decide) ?_)
        unfold wY_step_116
        exact ta_fl_br g7 (fun z => absurd (by decide) z) (fun _ => ta_rdt (by omega) (tb.trans h0) hp)
    · refine ⟨1, at', pc + 1, dp, tp, upd xt (27 + (2 * l + c)) (xt b), upd xv (27 + (2 * l + c)) (xv b), upd yt (27 + (2 * l + c)) (yt b), upd yv (27 + (2 * l + c)) (yv b), by rw [tb, vb]; exact ta_MA_at (ta_MA_heap M (by omega) cb) a8 (by omega), fun post hp => ?_, fun post hp => ta_ys S (fun f6 f7 z0 g6 g7 gz => ?_)⟩
      · refine ta_xs1 S (by omega) ?_
        unfold wpX_plainStep
        refine br_f (by decide) (br_t (by decide) (ta_rdt (by omega) h3 ⟨ta_vi (by omega), ?_⟩))
        rw [nI_clamp (n := a) (by omega), vl, ex]
        refine ta_xmove (by omega) (by omega) h0 ?_
        exact ta_x134 hp
      · have gz' := gz (by decide)
        subst gz'
        unfold wY_step_100
        refine ta_fl_br g6 (fun z => absurd (by decide) z) (fun _ => ta_rdf (by omega) (by rw [ta, h3]; decide) ?_)
        unfold wY_step_116
        refine ta_fl_br g7 (fun z => absurd (by decide) z) (fun _ => ta_rdf (by omega) (fun z => h0 (tb.symm.trans z)) ?_)
        unfold wY_step_133
        refine br_f (by decide) ?_
        unfold wY_step_149
        refine br_f (by decide) (br_f (by decide) (br_f (by decide) ?_))
        unfold wY_step_178
        refine ta_yuL (o := 6) (by omega) (fun z => absurd z (by decide)) (fun _ => br_t rfl ?_)
        unfold wY_step_195
        refine ta_yuC (o := 6) (by omega) (fun z => absurd z (by decide)) (fun _ => br_t rfl ?_)
        unfold wY_step_214
        refine br_f (by decide) ?_
        unfold wY_step_230
        refine br_t rfl (ta_rdt (by omega) (ta.trans h3) ?_)
        unfold wY_step_246
        refine br_f (by decide) ?_
        unfold wY_step_264
        refine br_f (by decide) (br_t rfl ⟨ta_vi (by omega), ?_⟩)
        unfold wY_step_301
        refine nm_r (e' := nI (27 + (2 * l + c))) (by rw [nI_clamp (by omega)]; exact (by rw [va, vl]; exact ey)) ?_
        refine br_f (by decide) ?_
        unfold wY_step_322
        refine br_f (by decide) ?_
        unfold wY_step_338
        refine br_f (by decide) ?_
        unfold wY_step_357
        refine br_f (by decide) (br_f (by decide) ?_)
        unfold wY_step_377
        refine br_f (by decide) ?_
        unfold wY_step_390
        refine br_f (by decide) ?_
        unfold wY_step_414
        refine br_f (by decide) ?_
        unfold wY_step_439
        refine br_f (by decide) ?_
        unfold wY_step_494
        refine br_f (by decide) ?_
        unfold wY_step_518
        refine br_t rfl ⟨ta_vi (by omega), ta_vi (by omega), ?_⟩
        rw [nI_clamp (n := b) (by omega)]
        refine ta_yset (i := 27 + (2 * l + c)) (by omega) ?_
        unfold wY_step_544
        refine br_f (by decide) ?_
        unfold wY_step_620
        refine br_f (by decide) (br_f (by decide) ?_)
        unfold wY_step_655
        refine br_f (by decide) ?_
        unfold wY_step_681
        refine br_f (by decide) ?_
        unfold wY_step_741
        refine br_f (by decide) (br_f (by decide) ?_)
        unfold wY_step_767
        refine br_f (by decide) ?_
        exact ta_ygo0 hp
  · by_cases h0 : xt a = nI 0
    · refine ⟨3, at', pc, dp, tp, xt, xv, yt, yv, M, fun post hp => ?_, fun post hp => ta_ys S (fun f6 f7 z0 g6 g7 gz => ?_)⟩
      · refine ta_xs1 S (by omega) ?_
        unfold wpX_plainStep
        refine br_f (by decide) (br_t (by decide) (ta_rdf (by omega) h3 ?_))
        exact br_f (by decide) hp
      · have gz' := gz (by decide)
        subst gz'
        unfold wY_step_100
        exact ta_fl_br g6 (fun z => absurd (by decide) z) (fun _ => ta_rdt (by omega) (ta.trans h0) hp)
    · by_cases h4 : xt b = nI 0
      · refine ⟨3, at', pc, dp, tp, xt, xv, yt, yv, M, fun post hp => ?_, fun post hp => ta_ys S (fun f6 f7 z0 g6 g7 gz => ?_)⟩
        · refine ta_xs1 S (by omega) ?_
          unfold wpX_plainStep
          refine br_f (by decide) (br_t (by decide) (ta_rdf (by omega) h3 ?_))
          exact br_f (by decide) hp
        · have gz' := gz (by decide)
          subst gz'
          unfold wY_step_100
          refine ta_fl_br g6 (fun z => absurd (by decide) z) (fun _ => ta_rdf (by omega) (fun z => h0 (ta.symm.trans z)) ?_)
          unfold wY_step_116
          exact ta_fl_br g7 (fun z => absurd (by decide) z) (fun _ => ta_rdt (by omega) (tb.trans h4) hp)
      · refine ⟨3, at', pc, dp, tp, xt, xv, yt, yv, M, fun post hp => ?_, fun post hp => ta_ys S (fun f6 f7 z0 g6 g7 gz => ?_)⟩
        · refine ta_xs1 S (by omega) ?_
          unfold wpX_plainStep
          refine br_f (by decide) (br_t (by decide) (ta_rdf (by omega) h3 ?_))
          exact br_f (by decide) hp
        · have gz' := gz (by decide)
          subst gz'
          unfold wY_step_100
          refine ta_fl_br g6 (fun z => absurd (by decide) z) (fun _ => ta_rdf (by omega) (fun z => h0 (ta.symm.trans z)) ?_)
          unfold wY_step_116
          refine ta_fl_br g7 (fun z => absurd (by decide) z) (fun _ => ta_rdf (by omega) (fun z => h4 (tb.symm.trans z)) ?_)
          unfold wY_step_133
          refine br_f (by decide) ?_
          unfold wY_step_149
          refine br_f (by decide) (br_f (by decide) (br_f (by decide) ?_))
          unfold wY_step_178
          refine ta_yuL (o := 6) (by omega) (fun z => absurd z (by decide)) (fun _ => br_t rfl ?_)
          unfold wY_step_195
          refine ta_yuC (o := 6) (by omega) (fun z => absurd z (by decide)) (fun _ => br_t rfl ?_)
          unfold wY_step_214
          refine br_f (by decide) ?_
          unfold wY_step_230
          exact br_t rfl (ta_rdf (by omega) (fun z => h3 (ta.symm.trans z)) hp)
theorem ta_st7 (M : ta_MA mD mT bc lc dp tp at' pc xt xv yt yv) (b8 : bc ≤ 8) {bI : Int32} (S : ta_SC bc lc at' pc e 7 a c bI xL xbf) : ta_SO mD mT bc lc dp tp at' pc xL xbf xt xv yt yv := by
  have ⟨pe, el, l40, _, a3, c2, _⟩ := S
  have ⟨d24, t12, dd, tt, a8, pl, mr, ms, mh⟩ := M
  have ⟨ta, va, ca⟩ := mr a a3
  by_cases h0 : xt a = nI 0
  · refine ⟨3, at', pc, dp, tp, xt, xv, yt, yv, M, fun post hp => ?_, fun post hp => ta_ys S (fun f6 f7 z0 g6 g7 gz => ?_)⟩
    · refine ta_xs2 S (by omega) (by omega) ?_
      unfold wpX_stackStep
      refine br_t rfl ?_
      unfold wpX_pushCell
      refine ta_rdt (by omega) h0 ?_
      exact br_f (by decide) hp
    · unfold wY_step_100
      exact ta_fl_br g6 (fun z => absurd (by decide) z) (fun _ => ta_rdt (by omega) (ta.trans h0) hp)
  · by_cases hd : dp < mD
    · obtain ⟨yt', yv', s1, s2, GP⟩ := ta_ypsh (o := nI 7) (a := nI a) (b := bI) dp yt yv (by omega)
      have q := s2 a (by omega)
      refine ⟨1, at', pc + 1, dp + 1, tp, upd xt (2 + (dp + 1)) (xt a), upd xv (2 + (dp + 1)) (xv a), upd yt' 3 (yt' a), upd yv' 3 (yv' a), by rw [q.1, q.2, ta, va]; exact ta_MA_at (ta_MA_push M hd h0 ca s1 s2) a8 (by omega), fun post hp => ?_, fun post hp => ta_ys S (fun f6 f7 z0 g6 g7 gz => ?_)⟩
      · refine ta_xs2 S (by omega) (by omega) ?_
        unfold wpX_stackStep
        refine br_t rfl ?_
        unfold wpX_pushCell
        refine ta_rdf (by omega) h0 (br_t (nI_lt hd (by omega)) (nm_r (nI_1 dp) ?_))
        rw [show (2 : Int32) + nI (dp + 1) = nI (2 + (dp + 1)) by rw [ta_l2, nI_add]]
        refine ta_xmove (by omega) (by omega) h0 ?_
        exact ta_x134 hp
      · unfold wY_step_100
        refine ta_fl_br g6 (fun z => absurd (by decide) z) (fun _ => ta_rdf (by omega) (fun z => h0 (ta.symm.trans z)) ?_)
        unfold wY_step_116
        refine ta_fl_br g7 (fun _ => ?_) (fun z => absurd z (by decide))
        unfold wY_step_133
        refine br_f (by decide) ?_
        unfold wY_step_149
        refine br_f (by decide) (br_f (by decide) (br_f (by decide) ?_))
        unfold wY_step_178
        refine ta_yuL (o := 7) (by omega) (fun z => absurd z (by decide)) (fun _ => br_t rfl ?_)
        unfold wY_step_195
        refine ta_yuC (o := 7) (by omega) (fun z => absurd z (by decide)) (fun _ => br_t rfl ?_)
        unfold wY_step_214
        refine br_f (by decide) ?_
        unfold wY_step_230
        refine br_f (by decide) ?_
        unfold wY_step_246
        refine br_f (by decide) ?_
        unfold wY_step_264
        refine br_f (by decide) (br_f (by decide) ?_)
        unfold wY_step_301
        refine nm_e ?_
        refine br_f (by decide) ?_
        unfold wY_step_322
        refine br_f (by decide) ?_
        unfold wY_step_338
        refine br_t rfl (br_t (nI_lt hd (by omega)) ?_)
        unfold wY_step_357
        refine br_f (by decide) (br_f (by decide) ?_)
        unfold wY_step_377
        refine br_f (by decide) ?_
        unfold wY_step_390
        refine br_f (by decide) ?_
        unfold wY_step_414
        refine br_f (by decide) ?_
        unfold wY_step_439
        refine br_f (by decide) ?_
        unfold wY_step_494
        refine br_f (by decide) ?_
        unfold wY_step_518
        refine br_f (by decide) ?_
        unfold wY_step_544
        refine br_t rfl ⟨_, GP _ ?_⟩
        rw [wY_step_556]
        refine br_t (by decide) ⟨ta_vi (by omega), ta_vi (by omega), ?_⟩
        rw [nI_clamp (n := a) (by omega)]
        refine ta_yset (i := 3) (by omega) (nm_r (nI_1 dp) ?_)
        unfold wY_step_620
        refine br_f (by decide) (br_f (by decide) ?_)
        unfold wY_step_655
        refine br_f (by decide) ?_
        unfold wY_step_681
        refine br_f (by decide) ?_
        unfold wY_step_741
        refine br_f (by decide) (br_f (by decide) ?_)
        unfold wY_step_767
        refine br_f (by decide) ?_
        exact ta_ygo0 hp
    · refine ⟨4, at', pc, dp, tp, xt, xv, yt, yv, M, fun post hp => ?_, fun post hp => ta_ys S (fun f6 f7 z0 g6 g7 gz => ?_)⟩
      · refine ta_xs2 S (by omega) (by omega) ?_
        unfold wpX_stackStep
        refine br_t rfl ?_
        unfold wpX_pushCell
        refine ta_rdf (by omega) h0 (br_f (nI_nlt (by omega) (by omega)) ?_)
        exact br_f (by decide) hp
      · unfold wY_step_100
        refine ta_fl_br g6 (fun z => absurd (by decide) z) (fun _ => ta_rdf (by omega) (fun z => h0 (ta.symm.trans z)) ?_)
        unfold wY_step_116
        refine ta_fl_br g7 (fun _ => ?_) (fun z => absurd z (by decide))
        unfold wY_step_133
        refine br_f (by decide) ?_
        unfold wY_step_149
        refine br_f (by decide) (br_f (by decide) (br_f (by decide) ?_))
        unfold wY_step_178
        refine ta_yuL (o := 7) (by omega) (fun z => absurd z (by decide)) (fun _ => br_t rfl ?_)
        unfold wY_step_195
        refine ta_yuC (o := 7) (by omega) (fun z => absurd z (by decide)) (fun _ => br_t rfl ?_)
        unfold wY_step_214
        refine br_f (by decide) ?_
        unfold wY_step_230
        refine br_f (by decide) ?_
        unfold wY_step_246
        refine br_f (by decide) ?_
        unfold wY_step_264
        refine br_f (by decide) (br_f (by decide) ?_)
        unfold wY_step_301
        refine nm_e ?_
        refine br_f (by decide) ?_
        unfold wY_step_322
        refine br_f (by decide) ?_
        unfold wY_step_338
        exact br_t rfl (br_f (nI_nlt (by omega) (by omega)) hp)
theorem ta_st8 (M : ta_MA mD mT bc lc dp tp at' pc xt xv yt yv) (b8 : bc ≤ 8) (hb : b < 8) (S : ta_SC bc lc at' pc e 8 a c (nI b) xL xbf) : ta_SO mD mT bc lc dp tp at' pc xL xbf xt xv yt yv := by
  have ⟨pe, el, l40, _, a3, c2, _⟩ := S
  have ⟨d24, t12, dd, tt, a8, pl, mr, ms, mh⟩ := M
  have ⟨ta, va, ca⟩ := mr a a3
  by_cases hd : b < dp
  · obtain ⟨tj, vj, nj, cj⟩ := ms b hd
    have ec : (2 : Int32) + nI dp - nI b = nI (2 + dp - b) := by rw [ta_l2, nI_add, pk_sub (by omega)]
    have M1 := ta_MA_reg M a3 cj
    obtain ⟨yt', yv', s1, s2, GP⟩ := ta_ypop (o := nI 8) (a := nI a) (b := nI b) (n := dp - 1) (by omega) (dp - 1) 0 (upd yt a (yt (3 + b))) (upd yv a (yv (3 + b))) (by omega)
    rw [tj, vj] at s1 s2
    refine ⟨1, at', pc + 1, dp - 1, tp, upd xt a (xt (2 + dp - b)), upd xv a (xv (2 + dp - b)), yt', yv', ta_MA_at (ta_MA_pop M1 (by omega) s1 s2) a8 (by omega), fun post hp => ?_, fun post hp => ta_ys S (fun f6 f7 z0 g6 g7 gz => ?_)⟩
    · refine ta_xs2 S (by omega) (by omega) ?_
      unfold wpX_stackStep
      refine br_f (by decide) (br_t (nI_lt hd (by omega)) (nm_r ec (br_f (by decide) (br_t rfl (nm_r (e' := nI (dp - 1)) (by rw [ta_l1, pk_sub (by omega)]) ?_)))))
      unfold wX_stackStep_62
      refine ta_xmove (by omega) (by omega) nj ?_
      exact ta_x134 hp
    · unfold wY_step_100
      refine ta_fl_br g6 (fun _ => ?_) (fun z => absurd z (by decide))
      unfold wY_step_116
      refine ta_fl_br g7 (fun _ => ?_) (fun z => absurd z (by decide))
      unfold wY_step_133
      refine br_f (by decide) ?_
      unfold wY_step_149
      refine br_f (by decide) (br_f (by decide) (br_f (by decide) ?_))
      unfold wY_step_178
      refine ta_yuL (o := 8) (by omega) (fun z => absurd z (by decide)) (fun _ => br_t rfl ?_)
      unfold wY_step_195
      refine ta_yuC (o := 8) (by omega) (fun _ => br_f (by decide) (br_t (nI_lt hd (by omega)) ?_)) (fun z => absurd (by decide) z)
      unfold wY_step_214
      refine br_f (by decide) ?_
      unfold wY_step_230
      refine br_f (by decide) ?_
      unfold wY_step_246
      refine br_f (by decide) ?_
      unfold wY_step_264
      refine br_f (by decide) (br_f (by decide) ?_)
      unfold wY_step_301
      refine nm_e ?_
      refine br_f (by decide) ?_
      unfold wY_step_322
      refine br_f (by decide) ?_
      unfold wY_step_338
      refine br_f (by decide) ?_
      unfold wY_step_357
      refine br_f (by decide) (br_f (by decide) ?_)
      unfold wY_step_377
      refine br_f (by decide) ?_
      unfold wY_step_390
      refine br_f (by decide) ?_
      unfold wY_step_414
      refine br_f (by decide) ?_
      unfold wY_step_439
      refine br_f (by decide) ?_
      unfold wY_step_494
      refine br_f (by decide) ?_
      unfold wY_step_518
      refine br_f (by decide) ?_
      unfold wY_step_544
      refine br_f (by decide) ?_
      unfold wY_step_620
      refine br_t rfl ?_
      unfold wY_step_632
      rw [ta_l3, nI_add, nI_clamp (by omega)]
      refine ⟨ta_vi (by omega), ta_vi (by omega), ta_yset (i := a) (by omega) ?_⟩
      unfold wY_step_655
      refine br_f (by decide) ?_
      unfold wY_step_681
      refine br_t rfl (nm_r (e' := nI (dp - 1)) (by rw [ta_l1, pk_sub (by omega)]) ⟨_, GP _ ?_⟩)
      unfold wY_step_741
      refine br_f (by decide) (br_f (by decide) ?_)
      unfold wY_step_767
      refine br_f (by decide) ?_
      exact ta_ygo0 hp
  · refine ⟨3, at', pc, dp, tp, xt, xv, yt, yv, M, fun post hp => ?_, fun post hp => ta_ys S (fun f6 f7 z0 g6 g7 gz => ?_)⟩
    · refine ta_xs2 S (by omega) (by omega) ?_
      unfold wpX_stackStep
      refine br_f (by decide) (br_f (nI_nlt (by omega) (by omega)) ?_)
      exact br_f (by decide) hp
    · unfold wY_step_100
      refine ta_fl_br g6 (fun _ => ?_) (fun z => absurd z (by decide))
      unfold wY_step_116
      refine ta_fl_br g7 (fun _ => ?_) (fun z => absurd z (by decide))
      unfold wY_step_133
      refine br_f (by decide) ?_
      unfold wY_step_149
      refine br_f (by decide) (br_f (by decide) (br_f (by decide) ?_))
      unfold wY_step_178
      refine ta_yuL (o := 8) (by omega) (fun z => absurd z (by decide)) (fun _ => br_t rfl ?_)
      unfold wY_step_195
      exact ta_yuC (o := 8) (by omega) (fun _ => br_f (by decide) (br_f (nI_nlt (by omega) (by omega)) hp)) (fun z => absurd (by decide) z)
theorem ta_st9 (M : ta_MA mD mT bc lc dp tp at' pc xt xv yt yv) (b8 : bc ≤ 8) (hb : b < 8) (S : ta_SC bc lc at' pc e 9 a c (nI b) xL xbf) : ta_SO mD mT bc lc dp tp at' pc xL xbf xt xv yt yv := by
  have ⟨pe, el, l40, _, a3, c2, _⟩ := S
  have ⟨d24, t12, dd, tt, a8, pl, mr, ms, mh⟩ := M
  have ⟨ta, va, ca⟩ := mr a a3
  by_cases hd : b < dp
  · obtain ⟨tj, vj, nj, cj⟩ := ms b hd
    have ec : (2 : Int32) + nI dp - nI b = nI (2 + dp - b) := by rw [ta_l2, nI_add, pk_sub (by omega)]
    refine ⟨1, at', pc + 1, dp, tp, upd xt a (xt (2 + dp - b)), upd xv a (xv (2 + dp - b)), upd yt a (yt (3 + b)), upd yv a (yv (3 + b)), by rw [tj, vj]; exact ta_MA_at (ta_MA_reg M a3 cj) a8 (by omega), fun post hp => ?_, fun post hp => ta_ys S (fun f6 f7 z0 g6 g7 gz => ?_)⟩
    · refine ta_xs2 S (by omega) (by omega) ?_
      unfold wpX_stackStep
      refine br_f (by decide) (br_t (nI_lt hd (by omega)) (nm_r ec (br_f (by decide) (br_f (by decide) ?_))))
      unfold wX_stackStep_62
      refine ta_xmove (by omega) (by omega) nj ?_
      exact ta_x134 hp
    · unfold wY_step_100
      refine ta_fl_br g6 (fun _ => ?_) (fun z => absurd z (by decide))
      unfold wY_step_116
      refine ta_fl_br g7 (fun _ => ?_) (fun z => absurd z (by decide))
      unfold wY_step_133
      refine br_f (by decide) ?_
      unfold wY_step_149
      refine br_f (by decide) (br_f (by decide) (br_f (by decide) ?_))
      unfold wY_step_178
      refine ta_yuL (o := 9) (by omega) (fun z => absurd z (by decide)) (fun _ => br_t rfl ?_)
      unfold wY_step_195
      refine ta_yuC (o := 9) (by omega) (fun _ => br_f (by decide) (br_t (nI_lt hd (by omega)) ?_)) (fun z => absurd (by decide) z)
      unfold wY_step_214
      refine br_f (by decide) ?_
      unfold wY_step_230
      refine br_f (by decide) ?_
      unfold wY_step_246
      refine br_f (by decide) ?_
      unfold wY_step_264
      refine br_f (by decide) (br_f (by decide) ?_)
      unfold wY_step_301
      refine nm_e ?_
      refine br_f (by decide) ?_
      unfold wY_step_322
      refine br_f (by decide) ?_
      unfold wY_step_338
      refine br_f (by decide) ?_
      unfold wY_step_357
      refine br_f (by decide) (br_f (by decide) ?_)
      unfold wY_step_377
      refine br_f (by decide) ?_
      unfold wY_step_390
      refine br_f (by decide) ?_
      unfold wY_step_414
      refine br_f (by decide) ?_
      unfold wY_step_439
      refine br_f (by decide) ?_
      unfold wY_step_494
      refine br_f (by decide) ?_
      unfold wY_step_518
      refine br_f (by decide) ?_
      unfold wY_step_544
      refine br_f (by decide) ?_
      unfold wY_step_620
      refine br_f (by decide) (br_t rfl ?_)
      unfold wY_step_632
      rw [ta_l3, nI_add, nI_clamp (by omega)]
      refine ⟨ta_vi (by omega), ta_vi (by omega), ta_yset (i := a) (by omega) ?_⟩
      unfold wY_step_655
      refine br_f (by decide) ?_
      unfold wY_step_681
      refine br_f (by decide) ?_
      unfold wY_step_741
      refine br_f (by decide) (br_f (by decide) ?_)
      unfold wY_step_767
      refine br_f (by decide) ?_
      exact ta_ygo0 hp
  · refine ⟨3, at', pc, dp, tp, xt, xv, yt, yv, M, fun post hp => ?_, fun post hp => ta_ys S (fun f6 f7 z0 g6 g7 gz => ?_)⟩
    · refine ta_xs2 S (by omega) (by omega) ?_
      unfold wpX_stackStep
      refine br_f (by decide) (br_f (nI_nlt (by omega) (by omega)) ?_)
      exact br_f (by decide) hp
    · unfold wY_step_100
      refine ta_fl_br g6 (fun _ => ?_) (fun z => absurd z (by decide))
      unfold wY_step_116
      refine ta_fl_br g7 (fun _ => ?_) (fun z => absurd z (by decide))
      unfold wY_step_133
      refine br_f (by decide) ?_
      unfold wY_step_149
      refine br_f (by decide) (br_f (by decide) (br_f (by decide) ?_))
      unfold wY_step_178
      refine ta_yuL (o := 9) (by omega) (fun z => absurd z (by decide)) (fun _ => br_t rfl ?_)
      unfold wY_step_195
      exact ta_yuC (o := 9) (by omega) (fun _ => br_f (by decide) (br_f (nI_nlt (by omega) (by omega)) hp)) (fun z => absurd (by decide) z)
theorem ta_st10 (M : ta_MA mD mT bc lc dp tp at' pc xt xv yt yv) (b8 : bc ≤ 8) (hb : b < 8) (S : ta_SC bc lc at' pc e 10 a c (nI b) xL xbf) : ta_SO mD mT bc lc dp tp at' pc xL xbf xt xv yt yv := by
  have ⟨pe, el, l40, _, a3, c2, _⟩ := S
  have ⟨d24, t12, dd, tt, a8, pl, mr, ms, mh⟩ := M
  have ⟨ta, va, ca⟩ := mr a a3
  by_cases hd : b < dp
  · have ec : (2 : Int32) + nI dp - nI b = nI (2 + dp - b) := by rw [ta_l2, nI_add, pk_sub (by omega)]
    by_cases h0 : xt a = nI 0
    · refine ⟨3, at', pc, dp, tp, xt, xv, yt, yv, M, fun post hp => ?_, fun post hp => ta_ys S (fun f6 f7 z0 g6 g7 gz => ?_)⟩
      · refine ta_xs2 S (by omega) (by omega) ?_
        unfold wpX_stackStep
        refine br_f (by decide) (br_t (nI_lt hd (by omega)) (nm_r ec (br_t rfl (ta_xmove0 (by omega) h0 ?_))))
        exact br_f (by decide) hp
      · unfold wY_step_100
        exact ta_fl_br g6 (fun z => absurd (by decide) z) (fun _ => ta_rdt (by omega) (ta.trans h0) hp)
    · refine ⟨1, at', pc + 1, dp, tp, upd xt (2 + dp - b) (xt a), upd xv (2 + dp - b) (xv a), upd yt (3 + b) (yt a), upd yv (3 + b) (yv a), by rw [ta, va]; exact ta_MA_at (ta_MA_poke M hd h0 ca) a8 (by omega), fun post hp => ?_, fun post hp => ta_ys S (fun f6 f7 z0 g6 g7 gz => ?_)⟩
      · refine ta_xs2 S (by omega) (by omega) ?_
        unfold wpX_stackStep
        refine br_f (by decide) (br_t (nI_lt hd (by omega)) (nm_r ec (br_t rfl (ta_xmove (by omega) (by omega) h0 ?_))))
        exact ta_x134 hp
      · unfold wY_step_100
        refine ta_fl_br g6 (fun z => absurd (by decide) z) (fun _ => ta_rdf (by omega) (fun z => h0 (ta.symm.trans z)) ?_)
        unfold wY_step_116
        refine ta_fl_br g7 (fun _ => ?_) (fun z => absurd z (by decide))
        unfold wY_step_133
        refine br_f (by decide) ?_
        unfold wY_step_149
        refine br_f (by decide) (br_f (by decide) (br_f (by decide) ?_))
        unfold wY_step_178
        refine ta_yuL (o := 10) (by omega) (fun z => absurd z (by decide)) (fun _ => br_t rfl ?_)
        unfold wY_step_195
        refine ta_yuC (o := 10) (by omega) (fun _ => br_f (by decide) (br_t (nI_lt hd (by omega)) ?_)) (fun z => absurd (by decide) z)
        unfold wY_step_214
        refine br_f (by decide) ?_
        unfold wY_step_230
        refine br_f (by decide) ?_
        unfold wY_step_246
        refine br_f (by decide) ?_
        unfold wY_step_264
        refine br_f (by decide) (br_f (by decide) ?_)
        unfold wY_step_301
        refine nm_e ?_
        refine br_f (by decide) ?_
        unfold wY_step_322
        refine br_f (by decide) ?_
        unfold wY_step_338
        refine br_f (by decide) ?_
        unfold wY_step_357
        refine br_f (by decide) (br_f (by decide) ?_)
        unfold wY_step_377
        refine br_f (by decide) ?_
        unfold wY_step_390
        refine br_f (by decide) ?_
        unfold wY_step_414
        refine br_f (by decide) ?_
        unfold wY_step_439
        refine br_f (by decide) ?_
        unfold wY_step_494
        refine br_f (by decide) ?_
        unfold wY_step_518
        refine br_f (by decide) ?_
        unfold wY_step_544
        refine br_f (by decide) ?_
        unfold wY_step_620
        refine br_f (by decide) (br_f (by decide) ?_)
        unfold wY_step_655
        refine br_t rfl ⟨ta_vi (by omega), ta_vi (by omega), ?_⟩
        rw [nI_clamp (n := a) (by omega)]
        refine ta_yset_e (i := 3 + b) (by omega) (by rw [ta_l3, nI_add]) ?_
        unfold wY_step_681
        refine br_f (by decide) ?_
        unfold wY_step_741
        refine br_f (by decide) (br_f (by decide) ?_)
        unfold wY_step_767
        refine br_f (by decide) ?_
        exact ta_ygo0 hp
  · by_cases h0 : xt a = nI 0
    · refine ⟨3, at', pc, dp, tp, xt, xv, yt, yv, M, fun post hp => ?_, fun post hp => ta_ys S (fun f6 f7 z0 g6 g7 gz => ?_)⟩
      · refine ta_xs2 S (by omega) (by omega) ?_
        unfold wpX_stackStep
        refine br_f (by decide) (br_f (nI_nlt (by omega) (by omega)) ?_)
        exact br_f (by decide) hp
      · unfold wY_step_100
        exact ta_fl_br g6 (fun z => absurd (by decide) z) (fun _ => ta_rdt (by omega) (ta.trans h0) hp)
    · refine ⟨3, at', pc, dp, tp, xt, xv, yt, yv, M, fun post hp => ?_, fun post hp => ta_ys S (fun f6 f7 z0 g6 g7 gz => ?_)⟩
      · refine ta_xs2 S (by omega) (by omega) ?_
        unfold wpX_stackStep
        refine br_f (by decide) (br_f (nI_nlt (by omega) (by omega)) ?_)
        exact br_f (by decide) hp
      · unfold wY_step_100
        refine ta_fl_br g6 (fun z => absurd (by decide) z) (fun _ => ta_rdf (by omega) (fun z => h0 (ta.symm.trans z)) ?_)
        unfold wY_step_116
        refine ta_fl_br g7 (fun _ => ?_) (fun z => absurd z (by decide))
        unfold wY_step_133
        refine br_f (by decide) ?_
        unfold wY_step_149
        refine br_f (by decide) (br_f (by decide) (br_f (by decide) ?_))
        unfold wY_step_178
        refine ta_yuL (o := 10) (by omega) (fun z => absurd z (by decide)) (fun _ => br_t rfl ?_)
        unfold wY_step_195
        exact ta_yuC (o := 10) (by omega) (fun _ => br_f (by decide) (br_f (nI_nlt (by omega) (by omega)) hp)) (fun z => absurd (by decide) z)
theorem ta_st11 (M : ta_MA mD mT bc lc dp tp at' pc xt xv yt yv) (b8 : bc ≤ 8) (hb : b < 8) (pf : ∀ l, l < bc → ∃ f, xbf l = nI f ∧ f ≤ lc) (S : ta_SC bc lc at' pc e 11 a c (nI b) xL xbf) : ta_SO mD mT bc lc dp tp at' pc xL xbf xt xv yt yv := by
  have ⟨pe, el, l40, _, a3, c2, _⟩ := S
  have ⟨d24, t12, dd, tt, a8, pl, mr, ms, mh⟩ := M
  have ⟨ta, va, ca⟩ := mr a a3
  by_cases h1 : xt a = nI 1
  · by_cases hl : b < bc
    · obtain ⟨f, ef, lf⟩ := pf b hl
      by_cases hv : xv a = nI 0
      · refine ⟨1, b, f, dp, tp, xt, xv, yt, yv, ta_MA_at M (by omega) lf, fun post hp => ?_, fun post hp => ta_ys S (fun f6 f7 z0 g6 g7 gz => ?_)⟩
        · refine ta_xs3 S (by omega) ?_
          unfold wpX_jump
          refine br_f (by decide) (br_f (by decide) (ta_rdt (by omega) h1 (br_f (by decide) (br_t (nI_lt hl (by omega)) (ta_rdt (by omega) hv ?_)))))
          exact ta_xgo hl b8 ef hp
        · unfold wY_step_100
          refine ta_fl_br g6 (fun z => absurd (by decide) z) (fun _ => ta_rdf (by omega) (by rw [ta, h1]; decide) ?_)
          unfold wY_step_116
          refine ta_fl_br g7 (fun _ => ?_) (fun z => absurd z (by decide))
          unfold wY_step_133
          refine br_f (by decide) ?_
          unfold wY_step_149
          refine br_f (by decide) (br_t rfl ?_)
          unfold wY_step_166
          refine ta_rdt (by omega) (ta.trans h1) ?_
          unfold wY_step_178
          refine ta_yuL (o := 11) (by omega) (fun _ => br_f (by decide) (br_f (nI_ge hl (by omega)) ?_)) (fun z => absurd (by decide) z)
          unfold wY_step_195
          refine ta_yuC (o := 11) (by omega) (fun z => absurd z (by decide)) (fun _ => br_t rfl ?_)
          unfold wY_step_214
          refine br_f (by decide) ?_
          unfold wY_step_230
          refine br_f (by decide) ?_
          unfold wY_step_246
          refine br_f (by decide) ?_
          unfold wY_step_264
          refine br_f (by decide) (br_f (by decide) ?_)
          unfold wY_step_301
          refine nm_e ?_
          refine br_f (by decide) ?_
          unfold wY_step_322
          refine br_f (by decide) ?_
          unfold wY_step_338
          refine br_f (by decide) ?_
          unfold wY_step_357
          refine br_f (by decide) (br_f (by decide) ?_)
          unfold wY_step_377
          refine br_f (by decide) ?_
          unfold wY_step_390
          refine br_f (by decide) ?_
          unfold wY_step_414
          refine br_f (by decide) ?_
          unfold wY_step_439
          refine br_f (by decide) ?_
          unfold wY_step_494
          refine br_f (by decide) ?_
          unfold wY_step_518
          refine br_f (by decide) ?_
          unfold wY_step_544
          refine br_f (by decide) ?_
          unfold wY_step_620
          refine br_f (by decide) (br_f (by decide) ?_)
          unfold wY_step_655
          refine br_f (by decide) ?_
          unfold wY_step_681
          refine br_f (by decide) ?_
          unfold wY_step_741
          refine br_f (by decide) (br_t rfl (ta_rdt (by omega) (va.trans hv) ?_))
          unfold wY_step_762
          exact ta_ygo (by omega) ef hp
      · refine ⟨1, at', pc + 1, dp, tp, xt, xv, yt, yv, ta_MA_at M a8 (by omega), fun post hp => ?_, fun post hp => ta_ys S (fun f6 f7 z0 g6 g7 gz => ?_)⟩
        · refine ta_xs3 S (by omega) ?_
          unfold wpX_jump
          refine br_f (by decide) (br_f (by decide) (ta_rdt (by omega) h1 (br_f (by decide) (br_t (nI_lt hl (by omega)) (ta_rdf (by omega) hv (nm_r (nI_1 pc) ?_))))))
          exact hp
        · unfold wY_step_100
          refine ta_fl_br g6 (fun z => absurd (by decide) z) (fun _ => ta_rdf (by omega) (by rw [ta, h1]; decide) ?_)
          unfold wY_step_116
          refine ta_fl_br g7 (fun _ => ?_) (fun z => absurd z (by decide))
          unfold wY_step_133
          refine br_f (by decide) ?_
          unfold wY_step_149
          refine br_f (by decide) (br_t rfl ?_)
          unfold wY_step_166
          refine ta_rdt (by omega) (ta.trans h1) ?_
          unfold wY_step_178
          refine ta_yuL (o := 11) (by omega) (fun _ => br_f (by decide) (br_f (nI_ge hl (by omega)) ?_)) (fun z => absurd (by decide) z)
          unfold wY_step_195
          refine ta_yuC (o := 11) (by omega) (fun z => absurd z (by decide)) (fun _ => br_t rfl ?_)
          unfold wY_step_214
          refine br_f (by decide) ?_
          unfold wY_step_230
          refine br_f (by decide) ?_
          unfold wY_step_246
          refine br_f (by decide) ?_
          unfold wY_step_264
          refine br_f (by decide) (br_f (by decide) ?_)
          unfold wY_step_301
          refine nm_e ?_
          refine br_f (by decide) ?_
          unfold wY_step_322
          refine br_f (by decide) ?_
          unfold wY_step_338
          refine br_f (by decide) ?_
          unfold wY_step_357
          refine br_f (by decide) (br_f (by decide) ?_)
          unfold wY_step_377
          refine br_f (by decide) ?_
          unfold wY_step_390
          refine br_f (by decide) ?_
          unfold wY_step_414
          refine br_f (by decide) ?_
          unfold wY_step_439
          refine br_f (by decide) ?_
          unfold wY_step_494
          refine br_f (by decide) ?_
          unfold wY_step_518
          refine br_f (by decide) ?_
          unfold wY_step_544
          refine br_f (by decide) ?_
          unfold wY_step_620
          refine br_f (by decide) (br_f (by decide) ?_)
          unfold wY_step_655
          refine br_f (by decide) ?_
          unfold wY_step_681
          refine br_f (by decide) ?_
          unfold wY_step_741
          refine br_f (by decide) (br_t rfl (ta_rdf (by omega) (fun z => hv (va.symm.trans z)) ?_))
          unfold wY_step_767
          refine br_f (by decide) ?_
          exact ta_ygo0 hp
    · refine ⟨3, at', pc, dp, tp, xt, xv, yt, yv, M, fun post hp => ?_, fun post hp => ta_ys S (fun f6 f7 z0 g6 g7 gz => ?_)⟩
      · refine ta_xs3 S (by omega) ?_
        unfold wpX_jump
        refine br_f (by decide) (br_f (by decide) (ta_rdt (by omega) h1 (br_f (by decide) (br_f (nI_nlt (by omega) (by omega)) ?_))))
        exact hp
      · unfold wY_step_100
        refine ta_fl_br g6 (fun z => absurd (by decide) z) (fun _ => ta_rdf (by omega) (by rw [ta, h1]; decide) ?_)
        unfold wY_step_116
        refine ta_fl_br g7 (fun _ => ?_) (fun z => absurd z (by decide))
        unfold wY_step_133
        refine br_f (by decide) ?_
        unfold wY_step_149
        refine br_f (by decide) (br_t rfl ?_)
        unfold wY_step_166
        refine ta_rdt (by omega) (ta.trans h1) ?_
        unfold wY_step_178
        exact ta_yuL (o := 11) (by omega) (fun _ => br_f (by decide) (br_t (nI_le (by omega) (by omega)) hp)) (fun z => absurd (by decide) z)
  · by_cases h0 : xt a = nI 0
    · refine ⟨3, at', pc, dp, tp, xt, xv, yt, yv, M, fun post hp => ?_, fun post hp => ta_ys S (fun f6 f7 z0 g6 g7 gz => ?_)⟩
      · refine ta_xs3 S (by omega) ?_
        unfold wpX_jump
        refine br_f (by decide) (br_f (by decide) (ta_rdf (by omega) h1 ?_))
        exact hp
      · unfold wY_step_100
        exact ta_fl_br g6 (fun z => absurd (by decide) z) (fun _ => ta_rdt (by omega) (ta.trans h0) hp)
    · refine ⟨3, at', pc, dp, tp, xt, xv, yt, yv, M, fun post hp => ?_, fun post hp => ta_ys S (fun f6 f7 z0 g6 g7 gz => ?_)⟩
      · refine ta_xs3 S (by omega) ?_
        unfold wpX_jump
        refine br_f (by decide) (br_f (by decide) (ta_rdf (by omega) h1 ?_))
        exact hp
      · unfold wY_step_100
        refine ta_fl_br g6 (fun z => absurd (by decide) z) (fun _ => ta_rdf (by omega) (fun z => h0 (ta.symm.trans z)) ?_)
        unfold wY_step_116
        refine ta_fl_br g7 (fun _ => ?_) (fun z => absurd z (by decide))
        unfold wY_step_133
        refine br_f (by decide) ?_
        unfold wY_step_149
        refine br_f (by decide) (br_t rfl ?_)
        unfold wY_step_166
        exact ta_rdf (by omega) (fun z => h1 (ta.symm.trans z)) hp
theorem ta_st12 (M : ta_MA mD mT bc lc dp tp at' pc xt xv yt yv) (b8 : bc ≤ 8) (hb : b < 8) (pf : ∀ l, l < bc → ∃ f, xbf l = nI f ∧ f ≤ lc) (S : ta_SC bc lc at' pc e 12 a c (nI b) xL xbf) : ta_SO mD mT bc lc dp tp at' pc xL xbf xt xv yt yv := by
  have ⟨pe, el, l40, _, a3, c2, _⟩ := S
  have ⟨d24, t12, dd, tt, a8, pl, mr, ms, mh⟩ := M
  have ⟨ta, va, ca⟩ := mr a a3
  by_cases hl : b < bc
  · obtain ⟨f, ef, lf⟩ := pf b hl
    refine ⟨1, b, f, dp, tp, xt, xv, yt, yv, ta_MA_at M (by omega) lf, fun post hp => ?_, fun post hp => ta_ys S (fun f6 f7 z0 g6 g7 gz => ?_)⟩
    · refine ta_xs3 S (by omega) ?_
      unfold wpX_jump
      refine br_t rfl ?_
      exact ta_xgo hl b8 ef hp
    · unfold wY_step_100
      refine ta_fl_br g6 (fun _ => ?_) (fun z => absurd z (by decide))
      unfold wY_step_116
      refine ta_fl_br g7 (fun _ => ?_) (fun z => absurd z (by decide))
      unfold wY_step_133
      refine br_f (by decide) ?_
      unfold wY_step_149
      refine br_f (by decide) (br_f (by decide) (br_f (by decide) ?_))
      unfold wY_step_178
      refine ta_yuL (o := 12) (by omega) (fun _ => br_f (by decide) (br_f (nI_ge hl (by omega)) ?_)) (fun z => absurd (by decide) z)
      unfold wY_step_195
      refine ta_yuC (o := 12) (by omega) (fun z => absurd z (by decide)) (fun _ => br_t rfl ?_)
      unfold wY_step_214
      refine br_f (by decide) ?_
      unfold wY_step_230
      refine br_f (by decide) ?_
      unfold wY_step_246
      refine br_f (by decide) ?_
      unfold wY_step_264
      refine br_f (by decide) (br_f (by decide) ?_)
      unfold wY_step_301
      refine nm_e ?_
      refine br_f (by decide) ?_
      unfold wY_step_322
      refine br_f (by decide) ?_
      unfold wY_step_338
      refine br_f (by decide) ?_
      unfold wY_step_357
      refine br_f (by decide) (br_f (by decide) ?_)
      unfold wY_step_377
      refine br_f (by decide) ?_
      unfold wY_step_390
      refine br_f (by decide) ?_
      unfold wY_step_414
      refine br_f (by decide) ?_
      unfold wY_step_439
      refine br_f (by decide) ?_
      unfold wY_step_494
      refine br_f (by decide) ?_
      unfold wY_step_518
      refine br_f (by decide) ?_
      unfold wY_step_544
      refine br_f (by decide) ?_
      unfold wY_step_620
      refine br_f (by decide) (br_f (by decide) ?_)
      unfold wY_step_655
      refine br_f (by decide) ?_
      unfold wY_step_681
      refine br_f (by decide) ?_
      unfold wY_step_741
      refine br_t rfl ?_
      unfold wY_step_762
      exact ta_ygo (by omega) ef hp
  · refine ⟨3, at', pc, dp, tp, xt, xv, yt, yv, M, fun post hp => ?_, fun post hp => ta_ys S (fun f6 f7 z0 g6 g7 gz => ?_)⟩
    · refine ta_xs3 S (by omega) ?_
      unfold wpX_jump
      refine br_t rfl ?_
      exact ta_xgo0 (by omega) (by omega) hp
    · unfold wY_step_100
      refine ta_fl_br g6 (fun _ => ?_) (fun z => absurd z (by decide))
      unfold wY_step_116
      refine ta_fl_br g7 (fun _ => ?_) (fun z => absurd z (by decide))
      unfold wY_step_133
      refine br_f (by decide) ?_
      unfold wY_step_149
      refine br_f (by decide) (br_f (by decide) (br_f (by decide) ?_))
      unfold wY_step_178
      exact ta_yuL (o := 12) (by omega) (fun _ => br_f (by decide) (br_t (nI_le (by omega) (by omega)) hp)) (fun z => absurd (by decide) z)
theorem ta_st13 (M : ta_MA mD mT bc lc dp tp at' pc xt xv yt yv) (b8 : bc ≤ 8) {bI : Int32} (pf : ∀ l, l < bc → ∃ f, xbf l = nI f ∧ f ≤ lc) (S : ta_SC bc lc at' pc e 13 a c bI xL xbf) : ta_SO mD mT bc lc dp tp at' pc xL xbf xt xv yt yv := by
  have ⟨pe, el, l40, _, a3, c2, _⟩ := S
  have ⟨d24, t12, dd, tt, a8, pl, mr, ms, mh⟩ := M
  have ⟨ta, va, ca⟩ := mr a a3
  by_cases h2 : xt a = nI 2
  · obtain ⟨l, vl, hl⟩ := ca.1 h2
    obtain ⟨f, ef, lf⟩ := pf l hl
    refine ⟨1, l, f, dp, tp, xt, xv, yt, yv, ta_MA_at M (by omega) lf, fun post hp => ?_, fun post hp => ta_ys S (fun f6 f7 z0 g6 g7 gz => ?_)⟩
    · refine ta_xs3 S (by omega) ?_
      unfold wpX_jump
      refine br_f (by decide) (br_t rfl (ta_rdt (by omega) h2 ⟨ta_vi (by omega), ?_⟩))
      rw [nI_clamp (n := a) (by omega), vl]
      exact ta_xgo hl b8 ef hp
    · unfold wY_step_100
      refine ta_fl_br g6 (fun z => absurd (by decide) z) (fun _ => ta_rdf (by omega) (by rw [ta, h2]; decide) ?_)
      unfold wY_step_116
      refine ta_fl_br g7 (fun _ => ?_) (fun z => absurd z (by decide))
      unfold wY_step_133
      refine br_f (by decide) ?_
      unfold wY_step_149
      refine br_f (by decide) (br_f (by decide) (br_f (by decide) ?_))
      unfold wY_step_178
      refine ta_yuL (o := 13) (by omega) (fun z => absurd z (by decide)) (fun _ => br_t rfl ?_)
      unfold wY_step_195
      refine ta_yuC (o := 13) (by omega) (fun z => absurd z (by decide)) (fun _ => br_t rfl ?_)
      unfold wY_step_214
      refine br_f (by decide) ?_
      unfold wY_step_230
      refine br_f (by decide) ?_
      unfold wY_step_246
      refine br_t rfl (ta_rdt (by omega) (ta.trans h2) ?_)
      unfold wY_step_264
      refine br_f (by decide) (br_f (by decide) ?_)
      unfold wY_step_301
      refine nm_e ?_
      refine br_f (by decide) ?_
      unfold wY_step_322
      refine br_f (by decide) ?_
      unfold wY_step_338
      refine br_f (by decide) ?_
      unfold wY_step_357
      refine br_f (by decide) (br_f (by decide) ?_)
      unfold wY_step_377
      refine br_f (by decide) ?_
      unfold wY_step_390
      refine br_f (by decide) ?_
      unfold wY_step_414
      refine br_f (by decide) ?_
      unfold wY_step_439
      refine br_f (by decide) ?_
      unfold wY_step_494
      refine br_f (by decide) ?_
      unfold wY_step_518
      refine br_f (by decide) ?_
      unfold wY_step_544
      refine br_f (by decide) ?_
      unfold wY_step_620
      refine br_f (by decide) (br_f (by decide) ?_)
      unfold wY_step_655
      refine br_f (by decide) ?_
      unfold wY_step_681
      refine br_f (by decide) ?_
      unfold wY_step_741
      refine br_f (by decide) (br_f (by decide) ?_)
      unfold wY_step_767
      refine br_t rfl ⟨ta_vi (by omega), ?_⟩
      rw [nI_clamp (n := a) (by omega), va.trans vl]
      exact ta_ygo (by omega) ef hp
  · by_cases h0 : xt a = nI 0
    · refine ⟨3, at', pc, dp, tp, xt, xv, yt, yv, M, fun post hp => ?_, fun post hp => ta_ys S (fun f6 f7 z0 g6 g7 gz => ?_)⟩
      · refine ta_xs3 S (by omega) ?_
        unfold wpX_jump
        refine br_f (by decide) (br_t rfl (ta_rdf (by omega) h2 ?_))
        exact hp
      · unfold wY_step_100
        exact ta_fl_br g6 (fun z => absurd (by decide) z) (fun _ => ta_rdt (by omega) (ta.trans h0) hp)
    · refine ⟨3, at', pc, dp, tp, xt, xv, yt, yv, M, fun post hp => ?_, fun post hp => ta_ys S (fun f6 f7 z0 g6 g7 gz => ?_)⟩
      · refine ta_xs3 S (by omega) ?_
        unfold wpX_jump
        refine br_f (by decide) (br_t rfl (ta_rdf (by omega) h2 ?_))
        exact hp
      · unfold wY_step_100
        refine ta_fl_br g6 (fun z => absurd (by decide) z) (fun _ => ta_rdf (by omega) (fun z => h0 (ta.symm.trans z)) ?_)
        unfold wY_step_116
        refine ta_fl_br g7 (fun _ => ?_) (fun z => absurd z (by decide))
        unfold wY_step_133
        refine br_f (by decide) ?_
        unfold wY_step_149
        refine br_f (by decide) (br_f (by decide) (br_f (by decide) ?_))
        unfold wY_step_178
        refine ta_yuL (o := 13) (by omega) (fun z => absurd z (by decide)) (fun _ => br_t rfl ?_)
        unfold wY_step_195
        refine ta_yuC (o := 13) (by omega) (fun z => absurd z (by decide)) (fun _ => br_t rfl ?_)
        unfold wY_step_214
        refine br_f (by decide) ?_
        unfold wY_step_230
        refine br_f (by decide) ?_
        unfold wY_step_246
        exact br_t rfl (ta_rdf (by omega) (fun z => h2 (ta.symm.trans z)) hp)
theorem ta_st14 (M : ta_MA mD mT bc lc dp tp at' pc xt xv yt yv) (b8 : bc ≤ 8) {bI : Int32} (S : ta_SC bc lc at' pc e 14 a c bI xL xbf) : ta_SO mD mT bc lc dp tp at' pc xL xbf xt xv yt yv := by
  have ⟨pe, el, l40, _, a3, c2, _⟩ := S
  have ⟨d24, t12, dd, tt, a8, pl, mr, ms, mh⟩ := M
  have ⟨ta, va, ca⟩ := mr a a3
  by_cases h1 : xt a = nI 1
  · refine ⟨2, at', pc, dp, tp, xt, xv, yt, yv, M, fun post hp => ?_, fun post hp => ta_ys S (fun f6 f7 z0 g6 g7 gz => ?_)⟩
    · refine ta_xs3 S (by omega) ?_
      unfold wpX_jump
      refine br_f (by decide) (br_f (by decide) (ta_rdt (by omega) h1 (br_t rfl ?_)))
      exact hp
    · unfold wY_step_100
      refine ta_fl_br g6 (fun z => absurd (by decide) z) (fun _ => ta_rdf (by omega) (by rw [ta, h1]; decide) ?_)
      unfold wY_step_116
      refine ta_fl_br g7 (fun _ => ?_) (fun z => absurd z (by decide))
      unfold wY_step_133
      refine br_f (by decide) ?_
      unfold wY_step_149
      refine br_f (by decide) (br_f (by decide) (br_t rfl ?_))
      unfold wY_step_166
      refine ta_rdt (by omega) (ta.trans h1) ?_
      unfold wY_step_178
      refine ta_yuL (o := 14) (by omega) (fun z => absurd z (by decide)) (fun _ => br_t rfl ?_)
      unfold wY_step_195
      refine ta_yuC (o := 14) (by omega) (fun z => absurd z (by decide)) (fun _ => br_t rfl ?_)
      unfold wY_step_214
      refine br_f (by decide) ?_
      unfold wY_step_230
      refine br_f (by decide) ?_
      unfold wY_step_246
      refine br_f (by decide) ?_
      unfold wY_step_264
      refine br_f (by decide) (br_f (by decide) ?_)
      unfold wY_step_301
      refine nm_e ?_
      refine br_f (by decide) ?_
      unfold wY_step_322
      refine br_f (by decide) ?_
      unfold wY_step_338
      refine br_f (by decide) ?_
      unfold wY_step_357
      exact br_t rfl hp
  · by_cases h0 : xt a = nI 0
    · refine ⟨3, at', pc, dp, tp, xt, xv, yt, yv, M, fun post hp => ?_, fun post hp => ta_ys S (fun f6 f7 z0 g6 g7 gz => ?_)⟩
      · refine ta_xs3 S (by omega) ?_
        unfold wpX_jump
        refine br_f (by decide) (br_f (by decide) (ta_rdf (by omega) h1 ?_))
        exact hp
      · unfold wY_step_100
        exact ta_fl_br g6 (fun z => absurd (by decide) z) (fun _ => ta_rdt (by omega) (ta.trans h0) hp)
    · refine ⟨3, at', pc, dp, tp, xt, xv, yt, yv, M, fun post hp => ?_, fun post hp => ta_ys S (fun f6 f7 z0 g6 g7 gz => ?_)⟩
      · refine ta_xs3 S (by omega) ?_
        unfold wpX_jump
        refine br_f (by decide) (br_f (by decide) (ta_rdf (by omega) h1 ?_))
        exact hp
      · unfold wY_step_100
        refine ta_fl_br g6 (fun z => absurd (by decide) z) (fun _ => ta_rdf (by omega) (fun z => h0 (ta.symm.trans z)) ?_)
        unfold wY_step_116
        refine ta_fl_br g7 (fun _ => ?_) (fun z => absurd z (by decide))
        unfold wY_step_133
        refine br_f (by decide) ?_
        unfold wY_step_149
        refine br_f (by decide) (br_f (by decide) (br_t rfl ?_))
        unfold wY_step_166
        exact ta_rdf (by omega) (fun z => h1 (ta.symm.trans z)) hp
end
end
section
/-! the machine runs -/
section
variable {xmN xmL xmD xmT xnc xlc xbc xvd xel xkd xke xqd xst xat xpc xdp xtp : Int32} {xK xP xL xbt xbf xR xB xQ xS xt xv : Nat → Int32}
variable {ync ytop ybc ylc yvd yel yst yat ypc ydp ytp ykd yke ymN ymL ymD ymT : Int32} {yT yI yW yL ybt ybf yt yv : Nat → Int32}
variable {K : Nat → Nat} {nc mL mD mT bc lc dp tp at' pc : Nat} {st : Int32}
theorem ta_step (Pr : ta_PR K nc mL lc bc xbt xbf xL) (M : ta_MA mD mT bc lc dp tp at' pc xt xv yt yv) : ta_SO mD mT bc lc dp tp at' pc xL xbf xt xv yt yv := by
  obtain ⟨b8, l1, l2, pt, pf, pl⟩ := Pr
  have l40 : lc ≤ 40 := by omega
  obtain ⟨e, el, GX, GY⟩ := ta_bend b8 l40 M.2.2.2.2.1 pf
  have p2 := M.2.2.2.2.2.1
  by_cases h : pc < e
  · obtain ⟨o, a, c, L0, o14, L1, a3, L3, c2, rest⟩ := pl pc (by omega)
    have : o = 0 ∨ o = 1 ∨ o = 2 ∨ o = 3 ∨ o = 4 ∨ o = 5 ∨ o = 6 ∨ o = 7 ∨ o = 8 ∨ o = 9 ∨ o = 10 ∨ o = 11 ∨ o = 12 ∨ o = 13 ∨ o = 14 := by omega
    rcases this with rfl | rfl | rfl | rfl | rfl | rfl | rfl | rfl | rfl | rfl | rfl | rfl | rfl | rfl | rfl
    · exact ta_st0 M b8 ⟨h, el, l40, by omega, a3, c2, L0, L1, rfl, L3, GX, GY⟩
    · obtain ⟨b, eb, g8, g3, g4, g0⟩ := rest (by omega)
      exact ta_st1 M b8 (g8 (by omega)) ⟨h, el, l40, by omega, a3, c2, L0, L1, eb, L3, GX, GY⟩
    · obtain ⟨b, eb, g8, g3, g4, g0⟩ := rest (by omega)
      exact ta_st2 M b8 (g3 (by omega)) ⟨h, el, l40, by omega, a3, c2, L0, L1, eb, L3, GX, GY⟩
    · obtain ⟨b, eb, g8, g3, g4, g0⟩ := rest (by omega)
      exact ta_st3 M b8 (g3 (by omega)) ⟨h, el, l40, by omega, a3, c2, L0, L1, eb, L3, GX, GY⟩
    · exact ta_st4 M b8 ⟨h, el, l40, by omega, a3, c2, L0, L1, rfl, L3, GX, GY⟩
    · obtain ⟨b, eb, g8, g3, g4, g0⟩ := rest (by omega)
      exact ta_st5 M b8 (g3 (by omega)) ⟨h, el, l40, by omega, a3, c2, L0, L1, eb, L3, GX, GY⟩
    · obtain ⟨b, eb, g8, g3, g4, g0⟩ := rest (by omega)
      exact ta_st6 M b8 (g3 (by omega)) ⟨h, el, l40, by omega, a3, c2, L0, L1, eb, L3, GX, GY⟩
    · exact ta_st7 M b8 ⟨h, el, l40, by omega, a3, c2, L0, L1, rfl, L3, GX, GY⟩
    · obtain ⟨b, eb, g8, g3, g4, g0⟩ := rest (by omega)
      exact ta_st8 M b8 (g8 (by omega)) ⟨h, el, l40, by omega, a3, c2, L0, L1, eb, L3, GX, GY⟩
    · obtain ⟨b, eb, g8, g3, g4, g0⟩ := rest (by omega)
      exact ta_st9 M b8 (g8 (by omega)) ⟨h, el, l40, by omega, a3, c2, L0, L1, eb, L3, GX, GY⟩
    · obtain ⟨b, eb, g8, g3, g4, g0⟩ := rest (by omega)
      exact ta_st10 M b8 (g8 (by omega)) ⟨h, el, l40, by omega, a3, c2, L0, L1, eb, L3, GX, GY⟩
    · obtain ⟨b, eb, g8, g3, g4, g0⟩ := rest (by omega)
      exact ta_st11 M b8 (g8 (by omega)) pf ⟨h, el, l40, by omega, a3, c2, L0, L1, eb, L3, GX, GY⟩
    · obtain ⟨b, eb, g8, g3, g4, g0⟩ := rest (by omega)
      exact ta_st12 M b8 (g8 (by omega)) pf ⟨h, el, l40, by omega, a3, c2, L0, L1, eb, L3, GX, GY⟩
    · exact ta_st13 M b8 pf ⟨h, el, l40, by omega, a3, c2, L0, L1, rfl, L3, GX, GY⟩
    · exact ta_st14 M b8 ⟨h, el, l40, by omega, a3, c2, L0, L1, rfl, L3, GX, GY⟩
  · refine ⟨3, at', pc, dp, tp, xt, xv, yt, yv, M, fun post hp => ?_, fun post hp => ?_⟩
    · unfold wpX_step
      exact GX _ (br_f (nI_nlt (by omega) (by omega)) hp)
    · unfold wpY_step
      exact GY _ (br_f (nI_nlt (by omega) (by omega)) hp)
theorem ta_runs (Pr : ta_PR K nc mL lc bc xbt xbf xL) {m : Nat} {p : Int32} (hm : m ≤ 200) (h1 : ∀ i, i < m → ¬ p ≤ nI i ∧ ¬ 200 ≤ nI i) (h2 : p ≤ nI m ∨ 200 ≤ nI m) :
    ∀ (d i : Nat) (st : Int32) (at' pc dp tp : Nat) (xt xv yt yv : Nat → Int32), i + d = m → ta_MA mD mT bc lc dp tp at' pc xt xv yt yv →
      ∃ (st' : Int32) (at2 pc2 dp2 tp2 : Nat) (xt' xv' yt' yv' : Nat → Int32), ta_MA mD mT bc lc dp2 tp2 at2 pc2 xt' xv' yt' yv' ∧
        (∀ {xmN xmL xnc xvd xel xkd xke xqd : Int32} {xK xP xbt xR xB xQ xS : Nat → Int32} (post : Int32 → SX → Prop), post st' (xmN, xmL, nI mD, nI mT, xnc, nI lc, nI bc, xvd, xel, xkd, xke, xqd, st', nI at2, nI pc2, nI dp2, nI tp2, xK, xP, xL, xbt, xbf, xR, xB, xQ, xS, xt', xv') → wX_run_12 post (nI m) (d + 1) (nI i) xmN xmL (nI mD) (nI mT) xnc (nI lc) (nI bc) xvd xel xkd xke xqd st (nI at') (nI pc) (nI dp) (nI tp) xK xP xL xbt xbf xR xB xQ xS xt xv) ∧
        (∀ {ync ytop yvd yel ykd yke ymN ymL : Int32} {yT yI yW ybt : Nat → Int32} (post : Int32 → SY → Prop), post st' (ync, ytop, nI bc, nI lc, yvd, yel, st', nI at2, nI pc2, nI dp2, nI tp2, ykd, yke, ymN, ymL, nI mD, nI mT, yT, yI, yW, xL, ybt, xbf, yt', yv') → wY_run_2 post p (d + 1) (nI i) ync ytop (nI bc) (nI lc) yvd yel st (nI at') (nI pc) (nI dp) (nI tp) ykd yke ymN ymL (nI mD) (nI mT) yT yI yW xL ybt xbf yt yv) := by
  intro d
  induction d with
  | zero =>
    intro i st at' pc dp tp xt xv yt yv hi M
    have : i = m := by omega
    subst this
    refine ⟨st, at', pc, dp, tp, xt, xv, yt, yv, M, fun post hp => ?_, fun post hp => ?_⟩
    · rw [wX_run_12]
      exact br_t (nI_le (Nat.le_refl _) (by omega)) hp
    · rw [wY_run_2]
      refine br_c (fun _ => hp) (fun z => br_t ?_ hp)
      rcases h2 with w | w
      · exact absurd w z
      · exact w
  | succ d ih =>
    intro i st at' pc dp tp xt xv yt yv hi M
    have g := h1 i (by omega)
    by_cases hs : st = 1
    · subst hs
      obtain ⟨st1, at1, pc1, dp1, tp1, xt1, xv1, yt1, yv1, M1, SX1, SY1⟩ := ta_step Pr M
      obtain ⟨st', at2, pc2, dp2, tp2, xt', xv', yt', yv', M2, GX, GY⟩ := ih (i + 1) st1 at1 pc1 dp1 tp1 xt1 xv1 yt1 yv1 (by omega) M1
      refine ⟨st', at2, pc2, dp2, tp2, xt', xv', yt', yv', M2, fun post hp => ?_, fun post hp => ?_⟩
      · rw [wX_run_12]
        refine br_f (nI_ge (by omega) (by omega)) (br_t rfl (SX1 _ ?_))
        exact nm_r (nI_1 i) (GX post hp)
      · rw [wY_run_2]
        refine br_f g.1 (br_f g.2 (br_t rfl (SY1 _ ?_)))
        exact nm_r (nI_1 i) (GY post hp)
    · refine ⟨st, at', pc, dp, tp, xt, xv, yt, yv, M, fun post hp => ?_, fun post hp => ?_⟩
      · rw [wX_run_12]
        exact br_f (nI_ge (by omega) (by omega)) (br_f hs hp)
      · rw [wY_run_2]
        exact br_f g.1 (br_f g.2 (br_f hs hp))
end
theorem i_vc_run {k : Nat} {u : SX} {v : SY} (I : i_Rel k u v) (hk : k + 5 ≤ 2564) (v1 : Int32) : wpX_run (fun r u' => wpY_run (fun r' v' => r' = r ∧ i_Rel (k + 5) u' v') v v1) u v1 := by
  refine ta_el (P := fun u v => wpX_run (fun r u' => wpY_run (fun r' v' => r' = r ∧ i_Rel (k + 5) u' v') v v1) u v1) ?_ I
  intro K N D E mN mL mD mT nc lc bc kd ke at' pc dp tp vd el st xqd ytop xK xP xL xbt xbf xR xB xQ xt xv yT yI yW yt yv A Kn Vd Pr Ma
  obtain ⟨m, m200, hc, h1, h2⟩ : ∃ m : Nat, m ≤ 200 ∧ (∀ post : Int32 → Prop, post (nI m) → wpX_clamp post (nI mN, nI mL, nI mD, nI mT, nI nc, nI lc, nI bc, vd, el, nI kd, nI ke, xqd, st, nI at', nI pc, nI dp, nI tp, xK, xP, xL, xbt, xbf, xR, xB, xQ, fun _ => 0, xt, xv) v1 0 200) ∧ (∀ i, i < m → ¬ v1 ≤ nI i ∧ ¬ (200 : Int32) ≤ nI i) ∧ (v1 ≤ nI m ∨ (200 : Int32) ≤ nI m) := by
    by_cases h0 : v1 < 0
    · refine ⟨0, by omega, fun post hp => br_f (Int32.not_le.mpr h0) hp, fun i hi => by omega, Or.inl (Int32.le_of_lt h0)⟩
    · obtain ⟨n, hn, rfl⟩ := nI_of h0
      rcases Nat.lt_or_ge 200 n with z | z
      · refine ⟨200, by omega, fun post hp => br_t (nI_pos' hn) (br_f (nI_ge (a := 200) z hn) hp), fun i hi => ⟨nI_ge (by omega) hn, nI_ge (b := 200) hi (by decide)⟩, Or.inr (by decide)⟩
      · refine ⟨n, z, fun post hp => br_t (nI_pos' hn) (br_t (nI_le (b := 200) z (by decide)) hp), fun i hi => ⟨nI_ge hi hn, nI_ge (b := 200) (by omega) (by decide)⟩, Or.inl (nI_le (Nat.le_refl _) hn)⟩
  obtain ⟨st', at2, pc2, dp2, tp2, xt', xv', yt', yv', M2, GX, GY⟩ := ta_runs Pr m200 h1 h2 m 0 st at' pc dp tp xt xv yt yv (by omega) Ma
  unfold wpX_run
  refine hc _ ⟨_, GX _ ?_⟩
  show wpY_run _ _ _
  unfold wpY_run
  exact ⟨_, GY _ ⟨rfl, ta_in' A Kn Vd Pr M2⟩⟩
end
section
/-! meets: the loops over cells and registers -/
def ta_KS (K : Nat → Nat) (nc kd ke : Nat) (xP xR yW : Nat → Int32) : Prop :=
  kd ≤ 8 ∧ (ke = 0 ∨ ke = 1) ∧ (∀ r, r < 3 → xR r = yW r ∧ ta_AG K nc (xR r)) ∧ (∀ j, j < kd → xP (4 * (23 + kd - j)) = yW (3 + j) ∧ ta_GP K nc (yW (3 + j))) ∧
  (∀ d, d < kd → xP (4 * (24 + d) + 1) = nI (if d = 0 then ke else 23 + d))
section
variable {xmN xmL xmD xmT xnc xlc xbc xvd xel xkd xke xqd xst xat xpc xdp xtp : Int32} {xK xP xL xbt xbf xR xB xQ xS xt xv : Nat → Int32}
variable {ync ytop ybc ylc yvd yel yst yat ypc ydp ytp ykd yke ymN ymL ymD ymT : Int32} {yT yI yW yL ybt ybf yt yv : Nat → Int32}
variable {K : Nat → Nat} {N : Nat → Nat → Option Nat} {D E : Nat → Nat} {nc mN Lk top kd ke k c s : Nat} {ρ : Nat → Nat}
theorem ta_Can_keep {yT' : Nat → Int32} (C : ta_Can yT top) (hT : ∀ j, j < 5 * top → yT' j = yT j) : ta_Can yT' top := by
  intro a b ha hb h
  refine C a b ha hb (fun j hj => ?_)
  have := h j hj
  rw [hT _ (by omega), hT _ (by omega)] at this
  exact this
theorem ta_xkc {j : Nat} (hk : kd ≤ 8) (hj : j < kd) {post : Int32 → Prop} (hp : post (xP (4 * (23 + kd - j)))) : wpX_knownCell post (xmN, xmL, xmD, xmT, xnc, xlc, xbc, xvd, xel, nI kd, xke, xqd, xst, xat, xpc, xdp, xtp, xK, xP, xL, xbt, xbf, xR, xB, xQ, xS, xt, xv) (nI j) := by
  unfold wpX_knownCell
  have ei : (4 : Int32) * ((23 + nI kd) - nI j) = nI (4 * (23 + kd - j)) := by rw [ta_l23, nI_add, pk_sub (by omega), ta_4]
  refine ⟨by rw [ei]; exact ta_vi (by omega), ?_⟩
  rw [ei, nI_clamp (by omega)]
  exact hp
theorem ta_cfit (P : ta_PA K N nc) (H : ta_DE K N D E nc) (H1 : ta_E01 K E nc) (X : ta_XA K N nc xK xP) (S : ta_KS K nc kd ke xP xR yW) (h80 : top + 48 ≤ 128) (nt : nc ≤ top) (vs : ta_vn nc Lk s) (hk : k ≤ kd) :
    ∀ (d j n : Nat) (q : Int32) (xB xQ yT yI : Nat → Int32), D n = d → n < nc → ta_SK K n → j + d = k → ta_FB K N nc Lk xK xP yT top ρ → ta_YA K N nc yT →
      ∃ (r q' : Int32) (xB' xQ' yT' yI' : Nat → Int32), (r = nI 0 ∨ r = nI 1) ∧ (∀ i, i < 5 * top → yT' i = yT i) ∧
        (∀ {xmN xmL xmD xmT xnc xlc xbc xvd xel xke xst xat xpc xdp xtp : Int32} {xL xbt xbf xR xt xv : Nat → Int32} (post : Int32 → SX → Prop), post r (xmN, xmL, xmD, xmT, xnc, xlc, xbc, xvd, xel, nI kd, xke, q', xst, xat, xpc, xdp, xtp, xK, xP, xL, xbt, xbf, xR, xB', xQ', fun _ => 0, xt, xv) → wX_cellsFit_5 post (nI s) (d + 1) (nI n) (nI j) xmN xmL xmD xmT xnc xlc xbc xvd xel (nI kd) xke q xst xat xpc xdp xtp xK xP xL xbt xbf xR xB xQ (fun _ => 0) xt xv) ∧
        (∀ {ybc ylc yvd yel yst yat ypc ydp ytp ykd yke ymN ymL ymD ymT : Int32} {yL ybt ybf yt yv : Nat → Int32} (post : Int32 → SY → Prop), ((r = nI 0 → post 0 (nI nc, nI top, ybc, ylc, yvd, yel, yst, yat, ypc, ydp, ytp, ykd, yke, ymN, ymL, ymD, ymT, yT', yI', yW, yL, ybt, ybf, yt, yv)) ∧ (r = nI 1 → ∃ n206, wY_meets_206 post (nI c) (nI (ρ s)) n206 0 (nI nc) (nI top) ybc ylc yvd yel yst yat ypc ydp ytp ykd yke ymN ymL ymD ymT yT' yI' yW yL ybt ybf yt yv)) →
          wY_meets_149 post (nI c) (nI (ρ s)) (nI k) (d + 1) (nI n) (nI j) (nI nc) (nI top) ybc ylc yvd yel yst yat ypc ydp ytp ykd yke ymN ymL ymD ymT yT yI yW yL ybt ybf yt yv) := by
  have n24 := P.2.1
  have k8 := S.1
  intro d
  induction d with
  | zero =>
    intro j n q xB xQ yT yI hd hn sk hj F Y
    have n3 : K n ≠ 3 := by
      intro h3
      obtain ⟨w, t, e0, e1, _⟩ := ta_cons P hn h3
      have := ((H n hn sk).2.1 h3 t e1).1
      omega
    refine ⟨nI 1, q, xB, xQ, yT, yI, Or.inr rfl, fun _ _ => rfl, fun post hp => ?_, fun post hp => ?_⟩
    · rw [wX_cellsFit_5]
      refine br_c (fun _ => hp) (fun _ => ⟨ta_vi (by omega), ?_⟩)
      rw [nI_clamp (by omega), (X n hn).1]
      exact br_f (ta_keq (c := 3) (P.2.2.2.2.2.1 n) (by omega) n3) hp
    · rw [wY_meets_149]
      exact br_t (nI_le (by omega) (by omega)) (hp.2 rfl)
  | succ d ih =>
    intro j n q xB xQ yT yI hd hn sk hj F Y
    have n3 : K n = 3 := by
      by_cases h3 : K n = 3
      · exact h3
      · have := ((H n hn sk).2.2 h3).1
        omega
    obtain ⟨w, t, e0, e1, gw, l0, l1, sk', p0, p1⟩ := ta_consX P X hn n3
    obtain ⟨w2, t2, f0, f1, _, _, _, _, y0, y1⟩ := ta_consY P Y hn n3
    have ew : w2 = w := Option.some.inj (f0.symm.trans e0)
    have et : t2 = t := Option.some.inj (f1.symm.trans e1)
    subst ew et
    have hD := ((H n hn sk).2.1 n3 _ e1).1
    obtain ⟨ec, h, eh, gh⟩ := S.2.2.2.1 j (by omega)
    obtain ⟨r1, q1, xB1, xQ1, yT1, yI1, R1, T1, GX1, GY1⟩ := ta_fit P H H1 X Y F h80 gh gw vs q xB xQ yI
    have xw : ∀ {xmN xmL xmD xmT xnc xlc xbc xvd xel xke xst xat xpc xdp xtp : Int32} {xL xbt xbf xR xt xv : Nat → Int32} (post : Int32 → SX → Prop), ((r1 = 0 → post 0 (xmN, xmL, xmD, xmT, xnc, xlc, xbc, xvd, xel, nI kd, xke, q1, xst, xat, xpc, xdp, xtp, xK, xP, xL, xbt, xbf, xR, xB1, xQ1, fun _ => 0, xt, xv)) ∧ (¬ r1 = 0 → wX_cellsFit_5 post (nI s) (d + 1) (nI t2) (nI (j + 1)) xmN xmL xmD xmT xnc xlc xbc xvd xel (nI kd) xke q1 xst xat xpc xdp xtp xK xP xL xbt xbf xR xB1 xQ1 (fun _ => 0) xt xv)) →
        wX_cellsFit_5 post (nI s) (d + 1 + 1) (nI n) (nI j) xmN xmL xmD xmT xnc xlc xbc xvd xel (nI kd) xke q xst xat xpc xdp xtp xK xP xL xbt xbf xR xB xQ (fun _ => 0) xt xv := by
      intro xmN xmL xmD xmT xnc xlc xbc xvd xel xke xst xat xpc xdp xtp xL xbt xbf xR xt xv post hpp
      rw [wX_cellsFit_5]
      refine br_f (nI_ge (by omega) (by omega)) ⟨ta_vi (by omega), ?_⟩
      rw [nI_clamp (n := n) (by omega), (X n hn).1]
      refine br_t (congrArg nI n3) (ta_xkc k8 (by omega) ?_)
      rw [ec, eh, ta_4, nI_clamp (by omega), p0]
      refine ⟨ta_vi (by omega), GX1 _ ⟨hpp.1, fun z => ?_⟩⟩
      rw [ta_p1, nI_clamp (by omega), p1]
      exact ⟨ta_vi (by omega), nm_e (nm_r (nI_1 j) (hpp.2 z))⟩
    have yw : ∀ {ybc ylc yvd yel yst yat ypc ydp ytp ykd yke ymN ymL ymD ymT : Int32} {yL ybt ybf yt yv : Nat → Int32} (post : Int32 → SY → Prop), ((r1 = 0 → post 0 (nI nc, nI top, ybc, ylc, yvd, yel, yst, yat, ypc, ydp, ytp, ykd, yke, ymN, ymL, ymD, ymT, yT1, yI1, yW, yL, ybt, ybf, yt, yv)) ∧ (¬ r1 = 0 → wY_meets_149 post (nI c) (nI (ρ s)) (nI k) (d + 1) (nI t2) (nI (j + 1)) (nI nc) (nI top) ybc ylc yvd yel yst yat ypc ydp ytp ykd yke ymN ymL ymD ymT yT1 yI1 yW yL ybt ybf yt yv)) →
        wY_meets_149 post (nI c) (nI (ρ s)) (nI k) (d + 1 + 1) (nI n) (nI j) (nI nc) (nI top) ybc ylc yvd yel yst yat ypc ydp ytp ykd yke ymN ymL ymD ymT yT yI yW yL ybt ybf yt yv := by
      intro ybc ylc yvd yel yst yat ypc ydp ytp ykd yke ymN ymL ymD ymT yL ybt ybf yt yv post hpp
      rw [wY_meets_149]
      refine br_f (nI_ge (by omega) (by omega)) ?_
      rw [ta_l3, nI_add, nI_clamp (by omega), eh, ta_5, ta_p1, nI_clamp (by omega), y0]
      refine ⟨ta_vi (by omega), ta_vi (by omega), GY1 _ ⟨hpp.1, fun z => ?_⟩⟩
      rw [ta_p2, nI_clamp (by omega), T1 _ (by omega), y1]
      exact ⟨ta_vi (by omega), nm_e (nm_r (nI_1 j) (hpp.2 z))⟩
    rcases R1 with z0 | z1
    · subst z0
      refine ⟨nI 0, q1, xB1, xQ1, yT1, yI1, Or.inl rfl, T1, fun post hp => xw post ⟨fun _ => hp, fun z => absurd rfl z⟩, fun post hp => yw post ⟨fun _ => hp.1 rfl, fun z => absurd rfl z⟩⟩
    · subst z1
      obtain ⟨r2, q2, xB2, xQ2, yT2, yI2, R2, T2, GX2, GY2⟩ := ih (j + 1) t2 q1 xB1 xQ1 yT1 yI1 (by omega) (by omega) sk' (by omega) (ta_FB_keep P.2.2.2.2.2.1 F (Nat.le_refl _) T1 (ta_Can_keep F.2.2.1 T1)) (ta_YA_keep Y nt T1)
      refine ⟨r2, q2, xB2, xQ2, yT2, yI2, R2, fun i hi => by rw [T2 i hi]; exact T1 i hi, fun post hp => xw post ⟨fun z => absurd z (by decide), fun _ => GX2 post hp⟩, fun post hp => yw post ⟨fun z => absurd z (by decide), fun _ => GY2 post hp⟩⟩
theorem ta_rfit (P : ta_PA K N nc) (H : ta_DE K N D E nc) (H1 : ta_E01 K E nc) (X : ta_XA K N nc xK xP) (S : ta_KS K nc kd ke xP xR yW) (h80 : top + 48 ≤ 128) (nt : nc ≤ top) (vs : ta_vn nc Lk s) (cn : c < nc) (kc : K c = 5) :
    ∀ (d j : Nat) (q : Int32) (xB xQ yT yI : Nat → Int32), j + d = 3 → ta_FB K N nc Lk xK xP yT top ρ → ta_YA K N nc yT →
      ∃ (r q' : Int32) (xB' xQ' yT' yI' : Nat → Int32), (r = nI 0 ∨ r = nI 1) ∧ (∀ i, i < 5 * top → yT' i = yT i) ∧
        (∀ {xmN xmL xmD xmT xnc xlc xbc xvd xel xkd xke xst xat xpc xdp xtp : Int32} {xL xbt xbf xt xv : Nat → Int32} (post : Int32 → SX → Prop), post r (xmN, xmL, xmD, xmT, xnc, xlc, xbc, xvd, xel, xkd, xke, q', xst, xat, xpc, xdp, xtp, xK, xP, xL, xbt, xbf, xR, xB', xQ', fun _ => 0, xt, xv) → wX_registersFit_2 post (nI c) (nI s) (d + 1) (nI j) xmN xmL xmD xmT xnc xlc xbc xvd xel xkd xke q xst xat xpc xdp xtp xK xP xL xbt xbf xR xB xQ (fun _ => 0) xt xv) ∧
        (∀ {ybc ylc yvd yel yst yat ypc ydp ytp ykd yke ymN ymL ymD ymT : Int32} {yL ybt ybf yt yv : Nat → Int32} (post : Int32 → SY → Prop), post r (nI nc, nI top, ybc, ylc, yvd, yel, yst, yat, ypc, ydp, ytp, ykd, yke, ymN, ymL, ymD, ymT, yT', yI', yW, yL, ybt, ybf, yt, yv) → wY_meets_206 post (nI c) (nI (ρ s)) (d + 1) (nI j) (nI nc) (nI top) ybc ylc yvd yel yst yat ypc ydp ytp ykd yke ymN ymL ymD ymT yT yI yW yL ybt ybf yt yv) := by
  have n24 := P.2.1
  intro d
  induction d with
  | zero =>
    intro j q xB xQ yT yI hj F Y
    have : j = 3 := by omega
    subst this
    refine ⟨nI 1, q, xB, xQ, yT, yI, Or.inr rfl, fun _ _ => rfl, fun post hp => ?_, fun post hp => ?_⟩
    · rw [wX_registersFit_2]; exact br_t (by decide) hp
    · rw [wY_meets_206]; exact br_t (by decide) hp
  | succ d ih =>
    intro j q xB xQ yT yI hj F Y
    obtain ⟨t, e3, lt, sk, x3, y3, xr, gr, yr⟩ := ta_code P X Y cn kc
    have xj := xr j (by omega)
    have yj := yr j (by omega)
    obtain ⟨er, ar⟩ := S.2.2.1 j (by omega)
    -- up to the demand
    have xw : ∀ {xmN xmL xmD xmT xnc xlc xbc xvd xel xkd xke xst xat xpc xdp xtp : Int32} {xL xbt xbf xt xv : Nat → Int32} (post : Int32 → SX → Prop), ((ta_enc (N c j) < 0 → wX_registersFit_2 post (nI c) (nI s) (d + 1) (nI (j + 1)) xmN xmL xmD xmT xnc xlc xbc xvd xel xkd xke q xst xat xpc xdp xtp xK xP xL xbt xbf xR xB xQ (fun _ => 0) xt xv) ∧ (¬ ta_enc (N c j) < 0 → (xR j < 0 → post 0 (xmN, xmL, xmD, xmT, xnc, xlc, xbc, xvd, xel, xkd, xke, q, xst, xat, xpc, xdp, xtp, xK, xP, xL, xbt, xbf, xR, xB, xQ, fun _ => 0, xt, xv)) ∧ (¬ xR j < 0 → wpX_fitsWord (fun r u => (r = 0 → post 0 u) ∧ (¬ r = 0 → match u with | (xmN, xmL, xmD, xmT, xnc, xlc, xbc, xvd, xel, xkd, xke, xqd, xst, xat, xpc, xdp, xtp, xK, xP, xL, xbt, xbf, xR, xB, xQ, xS, xt, xv) => wX_registersFit_2 post (nI c) (nI s) (d + 1) (nI (j + 1)) xmN xmL xmD xmT xnc xlc xbc xvd xel xkd xke xqd xst xat xpc xdp xtp xK xP xL xbt xbf xR xB xQ xS xt xv)) (xmN, xmL, xmD, xmT, xnc, xlc, xbc, xvd, xel, xkd, xke, q, xst, xat, xpc, xdp, xtp, xK, xP, xL, xbt, xbf, xR, xB, xQ, fun _ => 0, xt, xv) (xR j) (ta_enc (N c j)) (nI s)))) →
        wX_registersFit_2 post (nI c) (nI s) (d + 1 + 1) (nI j) xmN xmL xmD xmT xnc xlc xbc xvd xel xkd xke q xst xat xpc xdp xtp xK xP xL xbt xbf xR xB xQ (fun _ => 0) xt xv := by
      intro xmN xmL xmD xmT xnc xlc xbc xvd xel xkd xke xst xat xpc xdp xtp xL xbt xbf xt xv post hpp
      rw [wX_registersFit_2]
      refine br_f (nI_ge (b := 3) (by omega) (by decide)) ?_
      rw [ta_4, nI_add, nI_clamp (by omega), xj, nI_clamp (by omega), nI_1]
      refine ⟨ta_vi (by omega), nm_e (br_c (fun h => nm_e (hpp.1 h)) (fun h => ⟨ta_vi (by omega), br_c (fun h2 => (hpp.2 h).1 h2) (fun h2 => ⟨ta_vi (by omega), ?_⟩)⟩))⟩
      have := (hpp.2 h).2 h2
      simp only [forall_eq] at this ⊢
      exact this
    have yw : ∀ {ybc ylc yvd yel yst yat ypc ydp ytp ykd yke ymN ymL ymD ymT : Int32} {yL ybt ybf yt yv : Nat → Int32} (post : Int32 → SY → Prop), ((ta_enc (N c j) < 0 → wY_meets_206 post (nI c) (nI (ρ s)) (d + 1) (nI (j + 1)) (nI nc) (nI top) ybc ylc yvd yel yst yat ypc ydp ytp ykd yke ymN ymL ymD ymT yT yI yW yL ybt ybf yt yv) ∧ (¬ ta_enc (N c j) < 0 → (yW j < 0 → post 0 (nI nc, nI top, ybc, ylc, yvd, yel, yst, yat, ypc, ydp, ytp, ykd, yke, ymN, ymL, ymD, ymT, yT, yI, yW, yL, ybt, ybf, yt, yv)) ∧ (¬ yW j < 0 → wpY_suits (fun r u => (r = 0 → post 0 u) ∧ (¬ r = 0 → match u with | (ync, ytop, ybc, ylc, yvd, yel, yst, yat, ypc, ydp, ytp, ykd, yke, ymN, ymL, ymD, ymT, yT, yI, yW, yL, ybt, ybf, yt, yv) => wY_meets_206 post (nI c) (nI (ρ s)) (d + 1) (nI (j + 1)) ync ytop ybc ylc yvd yel yst yat ypc ydp ytp ykd yke ymN ymL ymD ymT yT yI yW yL ybt ybf yt yv)) (nI nc, nI top, ybc, ylc, yvd, yel, yst, yat, ypc, ydp, ytp, ykd, yke, ymN, ymL, ymD, ymT, yT, yI, yW, yL, ybt, ybf, yt, yv) (yW j) (ta_enc (N c j)) (nI (ρ s))))) →
        wY_meets_206 post (nI c) (nI (ρ s)) (d + 1 + 1) (nI j) (nI nc) (nI top) ybc ylc yvd yel yst yat ypc ydp ytp ykd yke ymN ymL ymD ymT yT yI yW yL ybt ybf yt yv := by
      intro ybc ylc yvd yel yst yat ypc ydp ytp ykd yke ymN ymL ymD ymT yL ybt ybf yt yv post hpp
      rw [wY_meets_206]
      refine br_f (nI_ge (b := 3) (by omega) (by decide)) ?_
      rw [ta_5, ta_p1, nI_add, nI_clamp (by omega), yj, nI_clamp (by omega), nI_1]
      refine ⟨ta_vi (by omega), nm_e (br_c (fun h => nm_e (hpp.1 h)) (fun h => ⟨ta_vi (by omega), br_c (fun h2 => (hpp.2 h).1 h2) (fun h2 => ⟨ta_vi (by omega), ?_⟩)⟩))⟩
      have := (hpp.2 h).2 h2
      simp only [forall_eq] at this ⊢
      exact this
    rw [er] at ar
    cases hN : N c j with
    | none =>
      rw [hN] at xw yw
      obtain ⟨r2, q2, xB2, xQ2, yT2, yI2, R2, T2, GX2, GY2⟩ := ih (j + 1) q xB xQ yT yI (by omega) F Y
      exact ⟨r2, q2, xB2, xQ2, yT2, yI2, R2, T2, fun post hp => xw post (br_t (by decide) (GX2 post hp)), fun post hp => yw post (br_t (by decide) (GY2 post hp))⟩
    | some w =>
      rw [hN] at xw yw
      have gw := gr j (by omega) w hN
      have wl := ta_GWlt n24 gw
      have wn : ¬ ta_enc (some w) < 0 := nI_pos (by omega)
      obtain ⟨a, ea, ga⟩ := ar
      rw [er, ea] at xw
      rw [ea] at yw
      cases a with
      | none =>
        exact ⟨nI 0, q, xB, xQ, yT, yI, Or.inl rfl, fun _ _ => rfl, fun post hp => xw post (br_f wn (br_t (by decide) hp)), fun post hp => yw post (br_f wn (br_t (by decide) hp))⟩
      | some h =>
        have gh := ga h rfl
        have hl := ta_GWlt n24 gh
        have hn : ¬ ta_enc (some h) < 0 := nI_pos (by omega)
        obtain ⟨r1, q1, xB1, xQ1, yT1, yI1, R1, T1, GX1, GY1⟩ := ta_fit P H H1 X Y F h80 gh gw vs q xB xQ yI
        rcases R1 with z0 | z1
        · subst z0
          exact ⟨nI 0, q1, xB1, xQ1, yT1, yI1, Or.inl rfl, T1, fun post hp => xw post (br_f wn (br_f hn (GX1 _ (br_t rfl hp)))), fun post hp => yw post (br_f wn (br_f hn (GY1 _ (br_t rfl hp))))⟩
        · subst z1
          obtain ⟨r2, q2, xB2, xQ2, yT2, yI2, R2, T2, GX2, GY2⟩ := ih (j + 1) q1 xB1 xQ1 yT1 yI1 (by omega) (ta_FB_keep P.2.2.2.2.2.1 F (Nat.le_refl _) T1 (ta_Can_keep F.2.2.1 T1)) (ta_YA_keep Y nt T1)
          exact ⟨r2, q2, xB2, xQ2, yT2, yI2, R2, fun i hi => by rw [T2 i hi]; exact T1 i hi, fun post hp => xw post (br_f wn (br_f hn (GX1 _ (br_f (by decide) (GX2 post hp))))), fun post hp => yw post (br_f wn (br_f hn (GY1 _ (br_f (by decide) (GY2 post hp)))))⟩
end
end
section
/-! meets: the rest of the known stack as a node of Y -/
def ta_rx (ke d : Nat) : Nat := if d = 0 then ke else 23 + d
def ta_NK (N : Nat → Nat → Option Nat) (kd ke : Nat) (yW : Nat → Int32) (i j : Nat) : Option Nat :=
  if 24 ≤ i then (if j = 0 then some (yW (3 + (kd - 1 - (i - 24)))).toNatClampNeg else if j = 1 then some (ta_rx ke (i - 24)) else none) else N i j
section
variable {xmN xmL xmD xmT xnc xlc xbc xvd xel xkd xke xqd xst xat xpc xdp xtp : Int32} {xK xP xL xbt xbf xR xB xQ xS xt xv : Nat → Int32}
variable {ync ytop ybc ylc yvd yel yst yat ypc ydp ytp ykd yke ymN ymL ymD ymT : Int32} {yT yI yW yL ybt ybf yt yv : Nat → Int32}
variable {K : Nat → Nat} {N : Nat → Nat → Option Nat} {D E : Nat → Nat} {nc mN Lk top kd ke k : Nat} {ρ : Nat → Nat}
theorem ta_AR_N {N' : Nat → Nat → Option Nat} (h : ∀ i, i < nc → ∀ j, N' i j = N i j) (A : ta_AR K N D E nc mN xK xP yT) : ta_AR K N' D E nc mN xK xP yT := by
  obtain ⟨P, H, H1, X, Y, C, r⟩ := A
  refine ⟨⟨P.1, P.2.1, P.2.2.1, P.2.2.2.1, P.2.2.2.2.1, P.2.2.2.2.2.1, P.2.2.2.2.2.2.1, fun i hi j hj => ?_⟩, fun i hi sk => ?_, H1, fun i hi => ?_, fun i hi => ?_, C, r⟩
  · have := P.2.2.2.2.2.2.2 i hi j hj
    unfold ta_SL at this ⊢
    rw [h i hi j]; exact this
  · rw [h i hi 1]; exact H i hi sk
  · refine ⟨(X i hi).1, fun j hj => ?_⟩
    rw [h i hi j]; exact (X i hi).2 j hj
  · refine ⟨(Y i hi).1, fun j hj => ?_⟩
    rw [h i hi j]; exact (Y i hi).2 j hj
theorem ta_pm1 (m : Nat) : nI m + (-1) = nI m - 1 := (Int32.sub_eq_add_neg _ _).symm
theorem ta_x8 {m : Nat} (h : m ≤ k) (hk : k < 2 ^ 30) : nI m - 1 < nI k := by
  cases m with
  | zero => exact Int32.lt_of_lt_of_le (show nI 0 - 1 < 0 from by decide) (nI_pos' (by omega))
  | succ m => rw [nI_pred]; exact nI_lt (by omega) (by omega)
theorem ta_rx_vn (k01 : ke = 0 ∨ ke = 1) (n3 : 3 ≤ nc) (d : Nat) : ta_vn nc d (ta_rx ke d) := by
  unfold ta_rx
  by_cases c : d = 0
  · rw [if_pos c]; exact Or.inl (by omega)
  · rw [if_neg c]; exact Or.inr (by omega)
theorem ta_rx_SK (P : ta_PA K N nc) (K3 : ∀ d, d < 8 → K (24 + d) = 3) (k01 : ke = 0 ∨ ke = 1) {d : Nat} (hd : d ≤ 8) : ta_SK K (ta_rx ke d) := by
  unfold ta_rx
  by_cases c : d = 0
  · rw [if_pos c]
    rcases k01 with z | z
    · rw [z]; exact Or.inl P.2.2.1
    · rw [z]; exact Or.inr (Or.inl P.2.2.2.1)
  · rw [if_neg c, show 23 + d = 24 + (d - 1) by omega]
    exact Or.inr (Or.inr (K3 _ (by omega)))
theorem ta_FBstep (P : ta_PA K N nc) (K3 : ∀ d, d < 8 → K (24 + d) = 3) (xK3 : ∀ d, d < 8 → xK (24 + d) = nI 3) (S : ta_KS K nc kd ke xP xR yW) {d : Nat} (hd : d < kd) (F : ta_FB K (ta_NK N kd ke yW) nc d xK xP yT top ρ)
    {w m top' : Nat} {yT' : Nat → Int32} (ew : yW (3 + (kd - 1 - d)) = nI w) (gw : ta_GW K nc w) (hm : m < top') (ht : top ≤ top') (hT : ∀ j, j < 5 * top → yT' j = yT j) (C : ta_Can yT' top') (hh : ta_hitY yT' (nI 3) (nI w) (nI (ρ (ta_rx ke d))) ta_m ta_m m) :
    ta_FB K (ta_NK N kd ke yW) nc (d + 1) xK xP yT' top' (fun n => if n = 24 + d then m else ρ n) := by
  have n3 := P.1
  have n24 := P.2.1
  have k8 := S.1
  have F' := ta_FB_keep P.2.2.2.2.2.1 F ht hT C
  refine ⟨by omega, F'.2.1, C, fun i hi => ?_, fun n hn => ?_⟩
  · dsimp only
    rw [if_neg (by omega)]
    exact F.2.2.2.1 i hi
  · by_cases c : n = 24 + d
    · subst c
      have kk := K3 d (by omega)
      have wl := ta_GWlt n24 gw
      have e1 := S.2.2.2.2 d hd
      have e0 := (S.2.2.2.1 (kd - 1 - d) (by omega)).1
      rw [show 23 + kd - (kd - 1 - d) = 24 + d by omega, ew] at e0
      have N0 : ta_NK N kd ke yW (24 + d) 0 = some w := by
        unfold ta_NK
        rw [if_pos (by omega), if_pos rfl, show 24 + d - 24 = d by omega, ew, nI_clamp (by omega)]
      have N1 : ta_NK N kd ke yW (24 + d) 1 = some (ta_rx ke d) := by
        unfold ta_NK
        rw [if_pos (by omega), if_neg (by omega), if_pos rfl, show 24 + d - 24 = d by omega]
      have vr := ta_rx_vn (ke := ke) S.2.1 n3 d
      have rl : ta_rx ke d < 24 + d := by rcases vr with z | z <;> omega
      unfold ta_FN
      rw [kk]
      dsimp only
      rw [if_pos rfl]
      refine ⟨xK3 d (by omega), hm, hh.1, fun j hj => ?_, fun _ => ?_, fun j hj h1 h2 => ?_⟩
      · have : j = 0 := by omega
        subst this
        exact Or.inr ⟨w, N0, gw, by have := gw.1; omega, e0, hh.2.1⟩
      · refine ⟨ta_rx ke d, N1, ?_, rl, ta_rx_SK P K3 S.2.1 (by omega), e1, ?_⟩
        · rcases vr with z | z
          · exact Or.inl z
          · exact Or.inr (by omega)
        · rw [if_neg (by omega)]; exact hh.2.2.1
      · rcases Nat.lt_or_ge j 3 with z | z
        · have : j = 2 := by omega
          subst this
          exact hh.2.2.2.1
        · have : j = 3 := by omega
          subst this
          exact hh.2.2.2.2
    · have vn : ta_vn nc d n := by
        rcases hn with z | z
        · exact Or.inl z
        · exact Or.inr (by omega)
      have k5 := P.2.2.2.2.2.1 n
      obtain ⟨q1, q2, q3, q4, q5, q6⟩ := F'.2.2.2.2 n vn
      unfold ta_FN
      dsimp only
      rw [if_neg c]
      refine ⟨q1, q2, q3, q4, fun h => ?_, q6⟩
      obtain ⟨t, g1, g2, g3, g4, g5, g6⟩ := q5 h
      refine ⟨t, g1, ?_, g3, g4, g5, ?_⟩
      · rcases g2 with z | z
        · exact Or.inl z
        · exact Or.inr (by omega)
      · rw [if_neg (by rcases g2 with z | z <;> omega)]
        exact g6
theorem ta_rest63 (P : ta_PA K N nc) (K3 : ∀ d, d < 8 → K (24 + d) = 3) (xK3 : ∀ d, d < 8 → xK (24 + d) = nI 3) (S : ta_KS K nc kd ke xP xR yW) (hk : k ≤ kd) {x1 x2 x3 x5 x7 : Int32} :
    ∀ (f d top : Nat) (yT : Nat → Int32) (ρ : Nat → Nat), d + f = kd - k → ta_FB K (ta_NK N kd ke yW) nc d xK xP yT top ρ → top ≤ nc + d →
      ∃ (top' : Nat) (yT' : Nat → Int32) (ρ' : Nat → Nat), top ≤ top' ∧ top' ≤ nc + (kd - k) ∧ ta_FB K (ta_NK N kd ke yW) nc (kd - k) xK xP yT' top' ρ' ∧ (∀ j, j < 5 * top → yT' j = yT j) ∧
        ∀ {ync ybc ylc yvd yel yst yat ypc ydp ytp ykd yke ymN ymL ymD ymT : Int32} {yI yL ybt ybf yt yv : Nat → Int32} (post : Int32 → SY → Prop), ((x7 = 0 → (((nI (ρ' (ta_rx ke (kd - k))) = 0 → (wY_meets_111 post x1 x2 x3 (nI (ρ' (ta_rx ke (kd - k)))) x5 (nI k) x7 ync (nI top') ybc ylc yvd yel yst yat ypc ydp ytp ykd yke ymN ymL ymD ymT yT' yI yW yL ybt ybf yt yv)) ∧ (¬ nI (ρ' (ta_rx ke (kd - k))) = 0 → (post 0 (ync, nI top', ybc, ylc, yvd, yel, yst, yat, ypc, ydp, ytp, ykd, yke, ymN, ymL, ymD, ymT, yT', yI, yW, yL, ybt, ybf, yt, yv)))))) ∧ (¬ x7 = 0 → (wY_meets_111 post x1 x2 x3 (nI (ρ' (ta_rx ke (kd - k)))) x5 (nI k) x7 ync (nI top') ybc ylc yvd yel yst yat ypc ydp ytp ykd yke ymN ymL ymD ymT yT' yI yW yL ybt ybf yt yv))) →
          wY_meets_63 post x1 x2 x3 x5 (nI k) x7 (f + 1) (nI (ρ (ta_rx ke d))) (nI (kd - d) - 1) ync (nI top) ybc ylc yvd yel yst yat ypc ydp ytp ykd yke ymN ymL ymD ymT yT yI yW yL ybt ybf yt yv := by
  have n24 := P.2.1
  have k8 := S.1
  intro f
  induction f with
  | zero =>
    intro d top yT ρ hd F ht
    have : d = kd - k := by omega
    subst this
    refine ⟨top, yT, ρ, Nat.le_refl _, by omega, F, fun _ _ => rfl, fun post hp => ?_⟩
    rw [wY_meets_63]
    exact br_t (ta_x8 (by omega) (by omega)) hp
  | succ f ih =>
    intro d top yT ρ hd F ht
    obtain ⟨m, hm⟩ : ∃ m, kd - d = m + 1 := ⟨kd - d - 1, by omega⟩
    have em : kd - 1 - d = m := by omega
    obtain ⟨w, ew, gw⟩ := (S.2.2.2.1 m (by omega)).2
    obtain ⟨mm, top1, yT1, j1, j2, j3, j4, j5, j6, j7⟩ := ta_join (lim := 128) F.2.2.1 (by omega) (by omega) (nI 3) (nI w) (nI (ρ (ta_rx ke d))) ta_m ta_m
    have F1 := ta_FBstep P K3 xK3 S (by omega) F (by rw [em]; exact ew) gw j1 j2 j4 j5 j6
    obtain ⟨top', yT', ρ', q1, q2, q3, q4, G⟩ := ih (d + 1) top1 yT1 _ (by omega) F1 (by omega)
    refine ⟨top', yT', ρ', by omega, q2, q3, fun j hj => by rw [q4 j (by omega)]; exact j4 j hj, fun post hp => ?_⟩
    rw [wY_meets_63, hm, nI_pred]
    refine br_f (nI_nlt (by omega) (by omega)) ?_
    rw [ta_l3, nI_add, nI_clamp (by omega), ew]
    refine ⟨ta_vi (by omega), j7 _ ?_⟩
    refine nm_r (ta_pm1 m) ?_
    have g := G post hp
    have er : ta_rx ke (d + 1) = 24 + d := by unfold ta_rx; rw [if_neg (by omega)]; omega
    rw [er] at g
    rw [if_pos rfl, show kd - (d + 1) = m by omega] at g
    exact g
end
end
section
/-! meets -/
section
variable {xmN xmL xmD xmT xnc xlc xbc xvd xel xkd xke xqd xst xat xpc xdp xtp : Int32} {xK xP xL xbt xbf xR xB xQ xS xt xv : Nat → Int32}
variable {ync ytop ybc ylc yvd yel yst yat ypc ydp ytp ykd yke ymN ymL ymD ymT : Int32} {yT yI yW yL ybt ybf yt yv : Nat → Int32}
variable {K : Nat → Nat} {N : Nat → Nat → Option Nat} {D E : Nat → Nat} {nc mN Lk top kd ke k c s sc : Nat} {ρ : Nat → Nat}
/-- what meets gives on both sides -/
def ta_Mt (nc kd ke c : Nat) (z : Int32) (xK xP xR xB xQ yT yI yW : Nat → Int32) (q : Int32) (ytop0 : Int32) : Prop :=
  ∃ (r q' top' : Int32) (xB' xQ' yT' yI' : Nat → Int32), (r = nI 0 ∨ r = nI 1) ∧ (∀ j, j < 5 * nc → yT' j = yT j) ∧
    (∀ {xmN xmL xmD xmT xnc xlc xbc xvd xel xst xat xpc xdp xtp : Int32} {xL xbt xbf xt xv : Nat → Int32} (post : Int32 → SX → Prop), post r (xmN, xmL, xmD, xmT, xnc, xlc, xbc, xvd, xel, nI kd, nI ke, q', xst, xat, xpc, xdp, xtp, xK, xP, xL, xbt, xbf, xR, xB', xQ', fun _ => 0, xt, xv) → wpX_meets post (xmN, xmL, xmD, xmT, xnc, xlc, xbc, xvd, xel, nI kd, nI ke, q, xst, xat, xpc, xdp, xtp, xK, xP, xL, xbt, xbf, xR, xB, xQ, fun _ => 0, xt, xv) (nI c) z) ∧
    (∀ {ybc ylc yvd yel yst yat ypc ydp ytp ymN ymL ymD ymT : Int32} {yL ybt ybf yt yv : Nat → Int32} (post : Int32 → SY → Prop), post r (nI nc, top', ybc, ylc, yvd, yel, yst, yat, ypc, ydp, ytp, nI kd, nI ke, ymN, ymL, ymD, ymT, yT', yI', yW, yL, ybt, ybf, yt, yv) → wpY_meets post (nI nc, ytop0, ybc, ylc, yvd, yel, yst, yat, ypc, ydp, ytp, nI kd, nI ke, ymN, ymL, ymD, ymT, yT, yI, yW, yL, ybt, ybf, yt, yv) (nI c) z)
theorem ta_core (P : ta_PA K N nc) (H : ta_DE K N D E nc) (H1 : ta_E01 K E nc) (X : ta_XA K N nc xK xP) (Y : ta_YA K N nc yT) (S : ta_KS K nc kd ke xP xR yW) (F : ta_FB K N nc Lk xK xP yT top ρ) (h80 : top + 48 ≤ 128) (vs : ta_vn nc Lk s)
    (cn : c < nc) (kc : K c = 5) (scn : sc < nc) (sk : ta_SK K sc) (hk : D sc ≤ kd) (q : Int32) (xB xQ yI : Nat → Int32) :
    ∃ (r q' : Int32) (xB' xQ' yT' yI' : Nat → Int32), (r = nI 0 ∨ r = nI 1) ∧ (∀ j, j < 5 * top → yT' j = yT j) ∧
      (∀ {xmN xmL xmD xmT xnc xlc xbc xvd xel xke xst xat xpc xdp xtp : Int32} {xL xbt xbf xt xv : Nat → Int32} (post : Int32 → SX → Prop), post r (xmN, xmL, xmD, xmT, xnc, xlc, xbc, xvd, xel, nI kd, xke, q', xst, xat, xpc, xdp, xtp, xK, xP, xL, xbt, xbf, xR, xB', xQ', fun _ => 0, xt, xv) → wX_meets_91 post (nI c) (nI sc) (nI s) xmN xmL xmD xmT xnc xlc xbc xvd xel (nI kd) xke q xst xat xpc xdp xtp xK xP xL xbt xbf xR xB xQ (fun _ => 0) xt xv) ∧
      (∀ {ybc ylc yvd yel yst yat ypc ydp ytp ykd yke ymN ymL ymD ymT : Int32} {yL ybt ybf yt yv : Nat → Int32} (post : Int32 → SY → Prop), post r (nI nc, nI top, ybc, ylc, yvd, yel, yst, yat, ypc, ydp, ytp, ykd, yke, ymN, ymL, ymD, ymT, yT', yI', yW, yL, ybt, ybf, yt, yv) → ∃ n149, wY_meets_149 post (nI c) (nI (ρ s)) (nI (D sc)) n149 (nI sc) 0 (nI nc) (nI top) ybc ylc yvd yel yst yat ypc ydp ytp ykd yke ymN ymL ymD ymT yT yI yW yL ybt ybf yt yv) := by
  have nt := F.2.1
  obtain ⟨r1, q1, xB1, xQ1, yT1, yI1, R1, T1, GX1, GY1⟩ := ta_cfit (c := c) P H H1 X S h80 nt vs hk (D sc) 0 sc q xB xQ yT yI rfl scn sk (by omega) F Y
  rcases R1 with z0 | z1
  · subst z0
    refine ⟨nI 0, q1, xB1, xQ1, yT1, yI1, Or.inl rfl, T1, fun post hp => ?_, fun post hp => ⟨_, GY1 post ⟨fun _ => hp, fun z => absurd z (by decide)⟩⟩⟩
    unfold wX_meets_91
    exact ⟨_, GX1 _ (br_t rfl hp)⟩
  · subst z1
    obtain ⟨r2, q2, xB2, xQ2, yT2, yI2, R2, T2, GX2, GY2⟩ := ta_rfit P H H1 X S h80 nt vs cn kc 3 0 q1 xB1 xQ1 yT1 yI1 (by omega) (ta_FB_keep P.2.2.2.2.2.1 F (Nat.le_refl _) T1 (ta_Can_keep F.2.2.1 T1)) (ta_YA_keep Y nt T1)
    refine ⟨r2, q2, xB2, xQ2, yT2, yI2, R2, fun i hi => by rw [T2 i hi]; exact T1 i hi, fun post hp => ?_, fun post hp => ⟨_, GY1 post ⟨fun z => absurd z (by decide), fun _ => ⟨_, GY2 post hp⟩⟩⟩⟩
    unfold wX_meets_91
    refine ⟨_, GX1 _ (br_f (by decide) ⟨_, GX2 _ ?_⟩)⟩
    rcases R2 with w | w
    · subst w; exact br_t rfl hp
    · subst w; exact br_f (by decide) hp
theorem ta_xkrest (hk : k ≤ kd) (k8 : kd ≤ 8) {post : Int32 → Prop} (hp : post (nI (ta_rx ke (kd - k)))) : wpX_knownRest post (xmN, xmL, xmD, xmT, xnc, xlc, xbc, xvd, xel, nI kd, nI ke, xqd, xst, xat, xpc, xdp, xtp, xK, xP, xL, xbt, xbf, xR, xB, xQ, xS, xt, xv) (nI k) := by
  unfold wpX_knownRest
  refine nm_r (pk_sub hk) ?_
  unfold ta_rx at hp
  by_cases c : kd - k = 0
  · rw [if_pos c] at hp
    rw [c]
    exact br_f (by decide) hp
  · rw [if_neg c] at hp
    refine br_t (nI_lt (a := 0) (by omega) (by omega)) ?_
    rw [ta_l23, nI_add]
    exact hp
theorem ta_meets (A : ta_AR K N D E nc mN xK xP yT) (K3 : ∀ d, d < 8 → K (24 + d) = 3) (S : ta_KS K nc kd ke xP xR yW) (cn : c < nc) (kc : K c = 5) {z : Int32} (hz : z = 0 ∨ z = 1) (q : Int32) (xB xQ yI : Nat → Int32) (yt0 : Int32) :
    ta_Mt nc kd ke c z xK xP xR xB xQ yT yI yW q yt0 := by
  have A' : ta_AR K (ta_NK N kd ke yW) D E nc mN xK xP yT := ta_AR_N (fun i hi j => by have := A.1.2.1; unfold ta_NK; rw [if_neg (by omega)]) A
  have P := A.1
  have n3 := P.1
  have n24 := P.2.1
  have X := A.2.2.2.1
  have Y := A.2.2.2.2.1
  have H := A.2.1
  have k8 := S.1
  obtain ⟨sc, e3, lt, sk, x3, y3, _⟩ := ta_code P X Y cn kc
  have scn : sc < nc := by omega
  have d6 := (H sc scn sk).1
  have hE := A.2.2.1 sc scn sk
  -- both walks up to the comparison of depths
  have xpre : ∀ {xmN xmL xmD xmT xnc xlc xbc xvd xel xst xat xpc xdp xtp : Int32} {xL xbt xbf xt xv : Nat → Int32} (post : Int32 → SX → Prop), ((nI (D sc) ≤ nI kd → wpX_knownRest (fun r_33 => ((nI (E sc) = 0 → wX_meets_50 post (nI c) z (nI sc) r_33 1 xmN xmL xmD xmT xnc xlc xbc xvd xel (nI kd) (nI ke) q xst xat xpc xdp xtp xK xP xL xbt xbf xR xB xQ (fun _ => 0) xt xv) ∧ (¬ nI (E sc) = 0 → wX_meets_50 post (nI c) z (nI sc) r_33 0 xmN xmL xmD xmT xnc xlc xbc xvd xel (nI kd) (nI ke) q xst xat xpc xdp xtp xK xP xL xbt xbf xR xB xQ (fun _ => 0) xt xv))) (xmN, xmL, xmD, xmT, xnc, xlc, xbc, xvd, xel, nI kd, nI ke, q, xst, xat, xpc, xdp, xtp, xK, xP, xL, xbt, xbf, xR, xB, xQ, fun _ => 0, xt, xv) (nI (D sc))) ∧ (¬ nI (D sc) ≤ nI kd → post 0 (xmN, xmL, xmD, xmT, xnc, xlc, xbc, xvd, xel, nI kd, nI ke, q, xst, xat, xpc, xdp, xtp, xK, xP, xL, xbt, xbf, xR, xB, xQ, fun _ => 0, xt, xv))) →
      wpX_meets post (xmN, xmL, xmD, xmT, xnc, xlc, xbc, xvd, xel, nI kd, nI ke, q, xst, xat, xpc, xdp, xtp, xK, xP, xL, xbt, xbf, xR, xB, xQ, fun _ => 0, xt, xv) (nI c) z := by
    intro xmN xmL xmD xmT xnc xlc xbc xvd xel xst xat xpc xdp xtp xL xbt xbf xt xv post hpp
    unfold wpX_meets
    refine ⟨by rw [ta_4, ta_p3]; exact ta_vi (by omega), ?_⟩
    rw [ta_4, ta_p3, nI_clamp (by omega), x3]
    refine nm_e (ta_xcells P X H scn sk (br_c (fun h => ?_) (fun h => hpp.2 h)))
    have g := hpp.1 h
    rw [nI_leI (by omega) (by omega)] at h
    have kr : ∀ {Q : Int32 → Prop}, wpX_knownRest Q (xmN, xmL, xmD, xmT, xnc, xlc, xbc, xvd, xel, nI kd, nI ke, q, xst, xat, xpc, xdp, xtp, xK, xP, xL, xbt, xbf, xR, xB, xQ, fun _ => 0, xt, xv) (nI (D sc)) → Q (nI (ta_rx ke (kd - D sc))) := by
      intro Q hq
      unfold wpX_knownRest at hq
      have hq := hq _ rfl
      rw [pk_sub h] at hq
      unfold ta_rx
      by_cases c0 : kd - D sc = 0
      · rw [c0] at hq
        rw [if_pos c0]
        exact hq.2 (by decide)
      · rw [if_neg c0, ← nI_add]
        exact hq.1 (nI_lt (a := 0) (by omega) (by omega))
    refine ta_xkrest h k8 ?_
    refine ta_xend P X H scn sk ?_
    exact kr g
  have ypre : ∀ {ybc ylc yvd yel yst yat ypc ydp ytp ymN ymL ymD ymT : Int32} {yL ybt ybf yt yv : Nat → Int32} (post : Int32 → SY → Prop), ((nI (D sc) ≤ nI kd → ∃ n63, wY_meets_63 post (nI c) z (nI sc) 1 (nI (D sc)) (nI (E sc)) n63 (nI ke) (nI kd - 1) (nI nc) (nI nc) ybc ylc yvd yel yst yat ypc ydp ytp (nI kd) (nI ke) ymN ymL ymD ymT yT yI yW yL ybt ybf yt yv) ∧ (¬ nI (D sc) ≤ nI kd → post 0 (nI nc, yt0, ybc, ylc, yvd, yel, yst, yat, ypc, ydp, ytp, nI kd, nI ke, ymN, ymL, ymD, ymT, yT, yI, yW, yL, ybt, ybf, yt, yv))) →
      wpY_meets post (nI nc, yt0, ybc, ylc, yvd, yel, yst, yat, ypc, ydp, ytp, nI kd, nI ke, ymN, ymL, ymD, ymT, yT, yI, yW, yL, ybt, ybf, yt, yv) (nI c) z := by
    intro ybc ylc yvd yel yst yat ypc ydp ytp ymN ymL ymD ymT yL ybt ybf yt yv post hpp
    unfold wpY_meets
    refine ⟨by rw [ta_5, ta_p4]; exact ta_vi (by omega), ?_⟩
    rw [ta_5, ta_p4, nI_clamp (by omega), y3]
    refine nm_e (ta_ycells P Y H scn sk (ta_ydrop P Y H scn sk (br_c (fun h => nm_e (hpp.1 h)) (fun h => hpp.2 h))))
  by_cases hd : D sc ≤ kd
  · have hd' : nI (D sc) ≤ nI kd := nI_le hd (by omega)
    obtain ⟨top', yT1, ρ, t1, t2, F, T1, G⟩ := ta_rest63 (x1 := nI c) (x2 := z) (x3 := nI sc) (x5 := 1) (x7 := nI (E sc)) P K3 A.2.2.2.2.2.2.1 S hd (kd - D sc) 0 nc yT (fun i => i) (by omega) (ta_FB0 A') (by omega)
    have A1 := ta_AR_keep A' T1
    have vr := ta_rx_vn (ke := ke) S.2.1 n3 (kd - D sc)
    have kr : ta_SK K (ta_rx ke (kd - D sc)) := ta_rx_SK P K3 S.2.1 (by omega)
    have Y1 := A1.2.2.2.2.1
    -- the rest is NIL, or VAR, on one side as on the other
    have r01 : ∀ v, v = 0 ∨ v = 1 → (ρ (ta_rx ke (kd - D sc)) = v ↔ ta_rx ke (kd - D sc) = v) := by
      intro v hv
      rcases vr with w | w
      · rw [F.2.2.2.1 _ w]
      · have e : ta_rx ke (kd - D sc) = 24 + (ta_rx ke (kd - D sc) - 24) := by omega
        have kk : K (ta_rx ke (kd - D sc)) = 3 := by rw [e]; exact K3 _ (by omega)
        have f := (F.2.2.2.2 _ (Or.inr w)).2.2.1
        rw [kk] at f
        refine ⟨fun h => ?_, fun h => by omega⟩
        rw [h] at f
        have y := (Y1 v (by omega)).1
        rw [y, nI_eq (by have := P.2.2.2.2.2.1 v; omega) (by omega)] at f
        rcases hv with q | q
        · rw [q, P.2.2.1] at f; omega
        · rw [q, P.2.2.2.1] at f; omega
    have ρlt := (F.2.2.2.2 _ vr).2.1
    have rxl := ta_vn32 n24 F.1 vr
    -- the core, for a given s
    have core := fun s (vs : ta_vn nc (kd - D sc) s) => ta_core A1.1 A1.2.1 A1.2.2.1 A1.2.2.2.1 Y1 S F (by omega) vs cn kc scn sk hd q xB xQ yI
    -- the two walks into the core
    have xin : ∀ s, (z = 0 → s = 1) → (¬ z = 0 → s = ta_rx ke (kd - D sc)) → (E sc = 0 → ta_rx ke (kd - D sc) = 0) → (E sc = 1 → z = 0 → ta_rx ke (kd - D sc) = 1) → ∀ {xmN xmL xmD xmT xnc xlc xbc xvd xel xst xat xpc xdp xtp : Int32} {xL xbt xbf xt xv : Nat → Int32} (post : Int32 → SX → Prop), wX_meets_91 post (nI c) (nI sc) (nI s) xmN xmL xmD xmT xnc xlc xbc xvd xel (nI kd) (nI ke) q xst xat xpc xdp xtp xK xP xL xbt xbf xR xB xQ (fun _ => 0) xt xv →
        wpX_meets post (xmN, xmL, xmD, xmT, xnc, xlc, xbc, xvd, xel, nI kd, nI ke, q, xst, xat, xpc, xdp, xtp, xK, xP, xL, xbt, xbf, xR, xB, xQ, fun _ => 0, xt, xv) (nI c) z := by
      intro s s0 s1 c0 c1 xmN xmL xmD xmT xnc xlc xbc xvd xel xst xat xpc xdp xtp xL xbt xbf xt xv post hp
      have e81 : wX_meets_81 post (nI c) z (nI sc) (nI (ta_rx ke (kd - D sc))) xmN xmL xmD xmT xnc xlc xbc xvd xel (nI kd) (nI ke) q xst xat xpc xdp xtp xK xP xL xbt xbf xR xB xQ (fun _ => 0) xt xv := by
        unfold wX_meets_81
        refine br_c (fun h => ?_) (fun h => ?_)
        · rw [s0 h] at hp; exact hp
        · rw [s1 h] at hp; exact hp
      refine xpre post (br_t hd' (ta_xkrest hd k8 ?_))
      rcases hE with e | e
      · rw [e, c0 e]
        rw [c0 e] at e81
        refine br_t rfl ?_
        unfold wX_meets_50
        refine br_f (by decide) (br_t rfl ?_)
        unfold wX_meets_64
        exact br_f (by decide) e81
      · rw [e]
        refine br_f (by decide) ?_
        unfold wX_meets_50
        refine br_t rfl ?_
        unfold wX_meets_64
        refine br_t rfl (br_c (fun h => ?_) (fun h => e81))
        rw [c1 e h] at e81 ⊢
        exact br_t rfl e81
    have yin : ∀ s, (z = 0 → s = 1) → (¬ z = 0 → s = ta_rx ke (kd - D sc)) → (E sc = 0 → ta_rx ke (kd - D sc) = 0) → (E sc = 1 → z = 0 → ta_rx ke (kd - D sc) = 1) → ∀ {ybc ylc yvd yel yst yat ypc ydp ytp ymN ymL ymD ymT : Int32} {yL ybt ybf yt yv : Nat → Int32} (post : Int32 → SY → Prop), (∃ n149, wY_meets_149 post (nI c) (nI (ρ s)) (nI (D sc)) n149 (nI sc) 0 (nI nc) (nI top') ybc ylc yvd yel yst yat ypc ydp ytp (nI kd) (nI ke) ymN ymL ymD ymT yT1 yI yW yL ybt ybf yt yv) →
        wpY_meets post (nI nc, yt0, ybc, ylc, yvd, yel, yst, yat, ypc, ydp, ytp, nI kd, nI ke, ymN, ymL, ymD, ymT, yT, yI, yW, yL, ybt, ybf, yt, yv) (nI c) z := by
      intro s s0 s1 c0 c1 ybc ylc yvd yel yst yat ypc ydp ytp ymN ymL ymD ymT yL ybt ybf yt yv post hp
      have ρ1 : ρ 1 = 1 := F.2.2.2.1 1 (by omega)
      have ρ0 : ρ 0 = 0 := F.2.2.2.1 0 (by omega)
      have e129 : wY_meets_129 post (nI c) z (nI sc) (nI (ρ (ta_rx ke (kd - D sc)))) 1 (nI (D sc)) (nI (E sc)) (nI nc) (nI top') ybc ylc yvd yel yst yat ypc ydp ytp (nI kd) (nI ke) ymN ymL ymD ymT yT1 yI yW yL ybt ybf yt yv := by
        unfold wY_meets_129
        refine br_c (fun h => ?_) (fun h => ?_)
        · rw [s0 h, ρ1] at hp; exact hp
        · rw [s1 h] at hp
          refine pk_eq (E sc) 0 (fun e => ?_) (fun _ => hp)
          rw [c0 e, ρ0] at hp
          exact hp
      have e111 : wY_meets_111 post (nI c) z (nI sc) (nI (ρ (ta_rx ke (kd - D sc)))) 1 (nI (D sc)) (nI (E sc)) (nI nc) (nI top') ybc ylc yvd yel yst yat ypc ydp ytp (nI kd) (nI ke) ymN ymL ymD ymT yT1 yI yW yL ybt ybf yt yv := by
        unfold wY_meets_111
        refine pk_eq (E sc) 1 (fun e => br_c (fun h => ?_) (fun h => e129)) (fun _ => e129)
        have : ρ (ta_rx ke (kd - D sc)) = 1 := (r01 1 (Or.inr rfl)).mpr (c1 e h)
        exact br_t (congrArg nI this) e129
      refine ypre post (br_t hd' ⟨_, G post ?_⟩)
      refine pk_eq (E sc) 0 (fun e => ?_) (fun _ => e111)
      have : ρ (ta_rx ke (kd - D sc)) = 0 := (r01 0 (Or.inl rfl)).mpr (c0 e)
      exact br_t (congrArg nI this) e111
    by_cases b0 : E sc = 0 ∧ ta_rx ke (kd - D sc) ≠ 0
    · obtain ⟨b1, b2⟩ := b0
      refine ⟨nI 0, q, nI top', xB, xQ, yT1, yI, Or.inl rfl, T1, fun post hp => ?_, fun post hp => ?_⟩
      · refine xpre post (br_t hd' (ta_xkrest hd k8 ?_))
        rw [b1]
        refine br_t rfl ?_
        unfold wX_meets_50
        exact br_f (by decide) (br_f (fun w => b2 ((nI_eq (by omega) (by omega)).mp (w.trans ta_l0))) hp)
      · refine ypre post (br_t hd' ⟨_, G post ?_⟩)
        exact br_t (congrArg nI b1) (br_f (fun w => b2 ((r01 0 (Or.inl rfl)).mp ((nI_eq (by omega) (by omega)).mp (w.trans ta_l0)))) hp)
    · by_cases b1 : E sc = 1 ∧ z = 0 ∧ ta_rx ke (kd - D sc) ≠ 1
      · obtain ⟨b1, b2, b3⟩ := b1
        refine ⟨nI 0, q, nI top', xB, xQ, yT1, yI, Or.inl rfl, T1, fun post hp => ?_, fun post hp => ?_⟩
        · refine xpre post (br_t hd' (ta_xkrest hd k8 ?_))
          rw [b1]
          refine br_f (by decide) ?_
          unfold wX_meets_50
          refine br_t rfl ?_
          unfold wX_meets_64
          exact br_t rfl (br_t b2 (br_f (fun w => b3 ((nI_eq (by omega) (by omega)).mp (w.trans ta_l1))) hp))
        · refine ypre post (br_t hd' ⟨_, G post (br_f (by rw [b1]; decide) ?_)⟩)
          unfold wY_meets_111
          exact br_t (congrArg nI b1) (br_t b2 (br_f (fun w => b3 ((r01 1 (Or.inr rfl)).mp ((nI_eq (by omega) (by omega)).mp (w.trans ta_l1)))) hp))
      · obtain ⟨s, vs, s0, s1⟩ : ∃ s, ta_vn nc (kd - D sc) s ∧ (z = 0 → s = 1) ∧ (¬ z = 0 → s = ta_rx ke (kd - D sc)) := by
          by_cases c : z = 0
          · exact ⟨1, Or.inl (by omega), fun _ => rfl, fun w => absurd c w⟩
          · exact ⟨_, vr, fun w => absurd w c, fun _ => rfl⟩
        obtain ⟨r, q', xB', xQ', yT', yI', R, T, GX, GY⟩ := core s vs
        have c0 : E sc = 0 → ta_rx ke (kd - D sc) = 0 := fun e => by
          by_cases w : ta_rx ke (kd - D sc) = 0
          · exact w
          · exact absurd ⟨e, w⟩ b0
        have c1 : E sc = 1 → z = 0 → ta_rx ke (kd - D sc) = 1 := fun e h => by
          by_cases w : ta_rx ke (kd - D sc) = 1
          · exact w
          · exact absurd ⟨e, h, w⟩ b1
        exact ⟨r, q', nI top', xB', xQ', yT', yI', R, fun j hj => by rw [T j (by omega)]; exact T1 j hj, fun post hp => xin s s0 s1 c0 c1 post (GX post hp), fun post hp => yin s s0 s1 c0 c1 post (GY post hp)⟩
  · have hd' : ¬ nI (D sc) ≤ nI kd := nI_ge (by omega) (by omega)
    exact ⟨nI 0, q, yt0, xB, xQ, yT, yI, Or.inl rfl, fun _ _ => rfl, fun post hp => xpre post (br_f hd' hp), fun post hp => ypre post (br_f hd' hp)⟩
end
end
section
/-! the known state: its changes -/
section
variable {xmN xmL xmD xmT xnc xlc xbc xvd xel xkd xke xqd xst xat xpc xdp xtp : Int32} {xK xP xL xbt xbf xR xB xQ xS xt xv : Nat → Int32}
variable {ync ytop ybc ylc yvd yel yst yat ypc ydp ytp ykd yke ymN ymL ymD ymT : Int32} {yT yI yW yL ybt ybf yt yv : Nat → Int32}
variable {K : Nat → Nat} {N : Nat → Nat → Option Nat} {D E : Nat → Nat} {nc mN kd ke : Nat}
theorem ta_AR_P {xP' : Nat → Int32} (A : ta_AR K N D E nc mN xK xP yT) (h : ∀ j, j < 96 → xP' j = xP j) : ta_AR K N D E nc mN xK xP' yT := by
  obtain ⟨P, H, H1, X, Y, C, r⟩ := A
  have n24 := P.2.1
  refine ⟨P, H, H1, fun i hi => ⟨(X i hi).1, fun j hj => ?_⟩, Y, C, r⟩
  rw [h _ (by omega)]
  exact (X i hi).2 j hj
theorem ta_KS_KN (S : ta_KS K nc kd ke xP xR yW) : ta_KN kd ke xP xR yW := ⟨S.1, S.2.1, fun r hr => (S.2.2.1 r hr).1, fun j hj => (S.2.2.2.1 j hj).1⟩
theorem ta_KS_reg (S : ta_KS K nc kd ke xP xR yW) {a : Nat} (ha : a < 3) {x : Int32} (g : ta_AG K nc x) : ta_KS K nc kd ke xP (upd xR a x) (upd yW a x) := by
  obtain ⟨s1, s2, s3, s4, s5⟩ := S
  refine ⟨s1, s2, fun r hr => ?_, fun j hj => ?_, s5⟩
  · by_cases c : r = a
    · subst c; rw [pk_us, pk_us]; exact ⟨rfl, g⟩
    · rw [pk_un c, pk_un c]; exact s3 r hr
  · rw [pk_un (by omega)]; exact s4 j hj
theorem ta_KS_poke (S : ta_KS K nc kd ke xP xR yW) {b : Nat} (hb : b < kd) {x : Int32} (g : ta_GP K nc x) : ta_KS K nc kd ke (upd xP (4 * (23 + kd - b)) x) xR (upd yW (3 + b) x) := by
  obtain ⟨s1, s2, s3, s4, s5⟩ := S
  refine ⟨s1, s2, fun r hr => ?_, fun j hj => ?_, fun d hd => ?_⟩
  · rw [pk_un (by omega)]; exact s3 r hr
  · by_cases c : j = b
    · subst c; rw [pk_us, pk_us]; exact ⟨rfl, g⟩
    · rw [pk_un (by omega), pk_un (by omega)]; exact s4 j hj
  · rw [pk_un (by omega)]; exact s5 d hd
def ta_pu (xP : Nat → Int32) (kd ke : Nat) (x : Int32) : Nat → Int32 := upd (upd xP (4 * (24 + kd) + 1) (nI (ta_rx ke kd))) (4 * (24 + kd)) x
theorem ta_pu_lo {x : Int32} {j : Nat} (h : j < 4 * (24 + kd)) : ta_pu xP kd ke x j = xP j := by
  unfold ta_pu
  rw [pk_un (by omega), pk_un (by omega)]
theorem ta_xpush (k8 : kd < 8) {x : Int32} {post : SX → Prop} (hp : post (xmN, xmL, xmD, xmT, xnc, xlc, xbc, xvd, xel, nI (kd + 1), nI ke, xqd, xst, xat, xpc, xdp, xtp, xK, ta_pu xP kd ke x, xL, xbt, xbf, xR, xB, xQ, xS, xt, xv)) : wpX_pushKnown post (xmN, xmL, xmD, xmT, xnc, xlc, xbc, xvd, xel, nI kd, nI ke, xqd, xst, xat, xpc, xdp, xtp, xK, xP, xL, xbt, xbf, xR, xB, xQ, xS, xt, xv) x := by
  unfold wpX_pushKnown
  refine nm_r (e' := nI (4 * (24 + kd))) (by rw [ta_l24, nI_add, ta_4]) ?_
  refine ta_xkrest (k := 0) (by omega) (by omega) ?_
  rw [ta_p1, nI_clamp (by omega), nI_clamp (by omega), Nat.sub_zero]
  exact ⟨ta_vi (by omega), nm_e ⟨ta_vi (by omega), nm_e (nm_r (nI_1 kd) hp)⟩⟩
theorem ta_KS_push (S : ta_KS K nc kd ke xP xR yW) (k8 : kd < 8) {x : Int32} (g : ta_GP K nc x) {yW' : Nat → Int32} (w3 : yW' 3 = x) (w1 : ∀ i, 1 ≤ i → i ≤ kd → yW' (3 + i) = yW (2 + i)) (w2 : ∀ r, r < 3 → yW' r = yW r) :
    ta_KS K nc (kd + 1) ke (ta_pu xP kd ke x) xR yW' := by
  obtain ⟨s1, s2, s3, s4, s5⟩ := S
  refine ⟨by omega, s2, fun r hr => ?_, fun j hj => ?_, fun d hd => ?_⟩
  · rw [w2 r hr]; exact s3 r hr
  · by_cases c : j = 0
    · subst c
      rw [Nat.add_zero, w3, show 23 + (kd + 1) - 0 = 24 + kd by omega]
      refine ⟨?_, g⟩
      unfold ta_pu
      rw [pk_us]
    · have h := s4 (j - 1) (by omega)
      rw [show 23 + kd - (j - 1) = 23 + (kd + 1) - j by omega, show 3 + (j - 1) = 2 + j by omega] at h
      rw [w1 j (by omega) (by omega), ta_pu_lo (by omega)]
      exact h
  · by_cases c : d = kd
    · subst c
      unfold ta_pu
      rw [pk_un (by omega), pk_us]
      rfl
    · rw [ta_pu_lo (by omega)]
      exact s5 d (by omega)
theorem ta_KS_pop (S : ta_KS K nc kd ke xP xR yW) (h0 : 0 < kd) {yW' : Nat → Int32} (w1 : ∀ i, i < kd - 1 → yW' (3 + i) = yW (4 + i)) (w2 : ∀ r, r < 3 → yW' r = yW r) : ta_KS K nc (kd - 1) ke xP xR yW' := by
  obtain ⟨s1, s2, s3, s4, s5⟩ := S
  refine ⟨by omega, s2, fun r hr => ?_, fun j hj => ?_, fun d hd => s5 d (by omega)⟩
  · rw [w2 r hr]; exact s3 r hr
  · have h := s4 (j + 1) (by omega)
    rw [show 23 + kd - (j + 1) = 23 + (kd - 1) - j by omega, show 3 + (j + 1) = 4 + j by omega] at h
    rw [w1 j hj]
    exact h
/-- Y's shifts of the known cells -/
theorem ta_wpsh {o a b x : Int32} : ∀ (j : Nat) (yW : Nat → Int32), j ≤ 7 → ∃ yW' : Nat → Int32,
    (∀ i, 1 ≤ i → i ≤ j → yW' (3 + i) = yW (2 + i)) ∧ (∀ i, (i < 4 ∨ 3 + j < i) → yW' i = yW i) ∧
    ∀ {ync ytop ybc ylc yvd yel yst yat ypc ydp ytp ykd yke ymN ymL ymD ymT : Int32} {yT yI yL ybt ybf yt yv : Nat → Int32} (post : Int32 → SY → Prop), wY_judge_514 post o a b x ync ytop ybc ylc yvd yel yst yat ypc ydp ytp ykd yke ymN ymL ymD ymT (0 + 1) (nI 0) yT yI yW' yL ybt ybf yt yv → wY_judge_514 post o a b x ync ytop ybc ylc yvd yel yst yat ypc ydp ytp ykd yke ymN ymL ymD ymT (j + 1) (nI j) yT yI yW yL ybt ybf yt yv := by
  intro j
  induction j with
  | zero =>
    intro yW hj
    exact ⟨yW, fun i h1 h2 => by omega, fun _ _ => rfl, fun post hp => hp⟩
  | succ j ih =>
    intro yW hj
    obtain ⟨yW', s1, s2, G⟩ := ih (upd yW (3 + (j + 1)) (yW (2 + (j + 1)))) (by omega)
    refine ⟨yW', fun i h1 h2 => ?_, fun i hi => ?_, fun post hp => ?_⟩
    · by_cases e : i = j + 1
      · subst e
        rw [s2 _ (by omega), pk_us]
      · rw [s1 i h1 (by omega), pk_un (by omega)]
    · rw [s2 i (by omega), pk_un (by omega)]
    · rw [wY_judge_514]
      refine br_f (nI_nle (by omega) (by omega)) ?_
      rw [ta_l2, ta_l3, nI_add, nI_add, nI_clamp (by omega), nI_clamp (by omega)]
      exact ⟨ta_vi (by omega), ta_vi (by omega), nm_e (nm_r (pk_m1 j) (G post hp))⟩
theorem ta_wpop {n : Nat} (hn : n ≤ 7) : ∀ (d j : Nat) (yW : Nat → Int32), j + d = n → ∃ yW' : Nat → Int32,
    (∀ i, j ≤ i → i < n → yW' (3 + i) = yW (4 + i)) ∧ (∀ i, (i < 3 + j ∨ 3 + n ≤ i) → yW' i = yW i) ∧
    ∀ {ync ytop ybc ylc yvd yel yst yat ypc ydp ytp yke ymN ymL ymD ymT : Int32} {yT yI yL ybt ybf yt yv : Nat → Int32} (post : Int32 → SY → Prop), post 1 (ync, ytop, ybc, ylc, yvd, yel, yst, yat, ypc, ydp, ytp, nI n, yke, ymN, ymL, ymD, ymT, yT, yI, yW', yL, ybt, ybf, yt, yv) → wY_judge_624 post ync ytop ybc ylc yvd yel yst yat ypc ydp ytp (nI n) yke ymN ymL ymD ymT (d + 1) (nI j) yT yI yW yL ybt ybf yt yv := by
  intro d
  induction d with
  | zero =>
    intro j yW hj
    refine ⟨yW, fun i h1 h2 => by omega, fun _ _ => rfl, fun post hp => ?_⟩
    rw [wY_judge_624]
    exact br_t (nI_le (by omega) (by omega)) hp
  | succ d ih =>
    intro j yW hj
    obtain ⟨yW', s1, s2, G⟩ := ih (j + 1) (upd yW (3 + j) (yW (4 + j))) (by omega)
    refine ⟨yW', fun i h1 h2 => ?_, fun i hi => ?_, fun post hp => ?_⟩
    · by_cases e : i = j
      · subst e
        rw [s2 _ (by omega), pk_us]
      · rw [s1 i (by omega) h2, pk_un (by omega)]
    · rw [s2 i (by omega), pk_un (by omega)]
    · rw [wY_judge_624]
      refine br_f (nI_ge (by omega) (by omega)) ?_
      rw [ta_l3, ta_l4, nI_add, nI_add, nI_clamp (by omega), nI_clamp (by omega)]
      exact ⟨ta_vi (by omega), ta_vi (by omega), nm_e (nm_r (nI_1 j) (G post hp))⟩
/-- the marks of a word with one bit more -/
theorem ta_orb {w c : Nat} (hw : w < 128) (hc : c < 2) : ∃ w', nI w ||| ((1 : Int32) <<< (nI c &&& 31)) = nI w' ∧ w' / 4 = w / 4 ∧ w' < 128 := by
  have key : ∀ w : Fin 128, ∀ c : Fin 2, ∃ w' : Fin 128, nI w.val ||| ((1 : Int32) <<< (nI c.val &&& 31)) = nI w'.val ∧ w'.val / 4 = w.val / 4 := by decide +kernel
  obtain ⟨w', h1, h2⟩ := key ⟨w, hw⟩ ⟨c, hc⟩
  exact ⟨w'.val, h1, h2, w'.isLt⟩
end
end
section
/-! the checker's line: what both sides ask first -/
section
variable {xmN xmL xmD xmT xnc xlc xbc xvd xel xkd xke xqd xst xat xpc xdp xtp : Int32} {xK xP xL xbt xbf xR xB xQ xS xt xv : Nat → Int32}
variable {ync ytop ybc ylc yvd yel yst yat ypc ydp ytp ykd yke ymN ymL ymD ymT : Int32} {yT yI yW yL ybt ybf yt yv : Nat → Int32}
variable {o a b c : Nat} {bI : Int32}
theorem ta_rg3 {f : Nat → Int32} {a n : Nat} (ha : a < n) (hn : n ≤ 11) {B : Int32 → Prop} (h : B (f a)) : vp_in (nI a) n ∧ B (f (nI a).toNatClampNeg) := by
  rw [nI_clamp (by omega)]
  exact ⟨ta_vi ha (by omega), h⟩
theorem ta_xpre (o14 : o ≤ 14) (a3 : a < 3) (hb : (o = 2 ∨ o = 3 ∨ o = 5 ∨ o = 6) → bI = nI b ∧ b < 3) {post : Int32 → SX → Prop}
    (h4 : (((o = 3 ∨ o = 6 ∨ o = 7 ∨ o = 10 ∨ o = 11 ∨ o = 13 ∨ o = 14) ∧ xR a < 0) ∨ ((o = 2 ∨ o = 3 ∨ o = 5 ∨ o = 6) ∧ xR b < 0)) → post 4 (xmN, xmL, xmD, xmT, xnc, xlc, xbc, xvd, xel, xkd, xke, xqd, xst, xat, xpc, xdp, xtp, xK, xP, xL, xbt, xbf, xR, xB, xQ, xS, xt, xv)) (h5 : ¬ (((o = 3 ∨ o = 6 ∨ o = 7 ∨ o = 10 ∨ o = 11 ∨ o = 13 ∨ o = 14) ∧ xR a < 0) ∨ ((o = 2 ∨ o = 3 ∨ o = 5 ∨ o = 6) ∧ xR b < 0)) → ((o = 3 ∧ ¬ xR b = 8) ∨ ((o = 3 ∨ o = 11 ∨ o = 14) ∧ ¬ xR a = 8)) → post 5 (xmN, xmL, xmD, xmT, xnc, xlc, xbc, xvd, xel, xkd, xke, xqd, xst, xat, xpc, xdp, xtp, xK, xP, xL, xbt, xbf, xR, xB, xQ, xS, xt, xv)) (h : ¬ (((o = 3 ∨ o = 6 ∨ o = 7 ∨ o = 10 ∨ o = 11 ∨ o = 13 ∨ o = 14) ∧ xR a < 0) ∨ ((o = 2 ∨ o = 3 ∨ o = 5 ∨ o = 6) ∧ xR b < 0)) → ¬ ((o = 3 ∧ ¬ xR b = 8) ∨ ((o = 3 ∨ o = 11 ∨ o = 14) ∧ ¬ xR a = 8)) → wX_checkLine_164 post (nI o) (nI a) bI (nI c) xmN xmL xmD xmT xnc xlc xbc xvd xel xkd xke xqd xst xat xpc xdp xtp xK xP xL xbt xbf xR xB xQ xS xt xv) :
    wpX_checkLine post (xmN, xmL, xmD, xmT, xnc, xlc, xbc, xvd, xel, xkd, xke, xqd, xst, xat, xpc, xdp, xtp, xK, xP, xL, xbt, xbf, xR, xB, xQ, xS, xt, xv) (nI o) (nI a) bI (nI c) := by
  have e128 : ∀ z0, ta_fl z0 (o = 3 ∨ o = 11 ∨ o = 14) → ¬ (((o = 3 ∨ o = 6 ∨ o = 7 ∨ o = 10 ∨ o = 11 ∨ o = 13 ∨ o = 14) ∧ xR a < 0) ∨ ((o = 2 ∨ o = 3 ∨ o = 5 ∨ o = 6) ∧ xR b < 0)) → wX_checkLine_128 post (nI o) (nI a) bI (nI c) z0 xmN xmL xmD xmT xnc xlc xbc xvd xel xkd xke xqd xst xat xpc xdp xtp xK xP xL xbt xbf xR xB xQ xS xt xv := by
    intro z0 g p4
    unfold wX_checkLine_128
    refine ta_fl_br g (fun z => h p4 (fun w => ?_)) (fun z => ta_rg3 (f := xR) (B := fun y => ((y = 8 → _) ∧ (¬ y = 8 → _))) a3 (by omega) (br_c (fun h8 => pk_eq o 3 (fun o3 => ?_) (fun o3 => h p4 (fun w => ?_))) (fun h8 => h5 p4 (Or.inr ⟨z, h8⟩))))
    · rcases w with w | w
      · exact z (Or.inl w.1)
      · exact z w.1
    · obtain ⟨e, b3⟩ := hb (by omega)
      subst e
      exact ta_rg3 (f := xR) (B := fun y => ((y = 8 → _) ∧ (¬ y = 8 → _))) b3 (by omega) (br_c (fun h9 => h p4 (fun w => by
        rcases w with w | w
        · exact w.2 h9
        · exact w.2 h8)) (fun h9 => h5 p4 (Or.inl ⟨o3, h9⟩)))
    · rcases w with w | w
      · exact o3 w.1
      · exact w.2 h8
  have e106 : ¬ (((o = 3 ∨ o = 6 ∨ o = 7 ∨ o = 10 ∨ o = 11 ∨ o = 13 ∨ o = 14) ∧ xR a < 0) ∨ ((o = 2 ∨ o = 3 ∨ o = 5 ∨ o = 6) ∧ xR b < 0)) → wX_checkLine_106 post (nI o) (nI a) bI (nI c) xmN xmL xmD xmT xnc xlc xbc xvd xel xkd xke xqd xst xat xpc xdp xtp xK xP xL xbt xbf xR xB xQ xS xt xv := by
    intro p4
    unfold wX_checkLine_106
    exact pk_eq o 3 (fun z => e128 1 (Or.inr ⟨rfl, by omega⟩) p4) (fun z3 => pk_eq o 11 (fun z => e128 1 (Or.inr ⟨rfl, by omega⟩) p4) (fun z11 => pk_eq o 14 (fun z => e128 1 (Or.inr ⟨rfl, by omega⟩) p4) (fun z14 => e128 0 (Or.inl ⟨rfl, by omega⟩) p4)))
  have e90 : ∀ x5, ta_fl x5 (o = 2 ∨ o = 3 ∨ o = 5 ∨ o = 6) → ¬ ((o = 3 ∨ o = 6 ∨ o = 7 ∨ o = 10 ∨ o = 11 ∨ o = 13 ∨ o = 14) ∧ xR a < 0) → wX_checkLine_90 post (nI o) (nI a) bI (nI c) x5 xmN xmL xmD xmT xnc xlc xbc xvd xel xkd xke xqd xst xat xpc xdp xtp xK xP xL xbt xbf xR xB xQ xS xt xv := by
    intro x5 g pa
    unfold wX_checkLine_90
    refine ta_fl_br g (fun z => e106 (fun w => ?_)) (fun z => ?_)
    · rcases w with w | w
      · exact pa w
      · exact z w.1
    · obtain ⟨e, b3⟩ := hb z
      subst e
      exact ta_rg3 (f := xR) (B := fun y => ((0 ≤ y → _) ∧ (¬ 0 ≤ y → _))) b3 (by omega) (br_c (fun h0 => e106 (fun w => by
        rcases w with w | w
        · exact pa w
        · exact Int32.not_lt.mpr h0 w.2)) (fun h0 => h4 (Or.inr ⟨z, Int32.not_le.mp h0⟩)))
  have e74 : ∀ x5 z0, ta_fl x5 (o = 2 ∨ o = 3 ∨ o = 5 ∨ o = 6) → ta_fl z0 (o = 3 ∨ o = 6 ∨ o = 7 ∨ o = 10 ∨ o = 11 ∨ o = 13 ∨ o = 14) → wX_checkLine_74 post (nI o) (nI a) bI (nI c) x5 z0 xmN xmL xmD xmT xnc xlc xbc xvd xel xkd xke xqd xst xat xpc xdp xtp xK xP xL xbt xbf xR xB xQ xS xt xv := by
    intro x5 z0 g g'
    unfold wX_checkLine_74
    exact ta_fl_br g' (fun z => e90 x5 g (fun w => z w.1)) (fun z => ta_rg3 (f := xR) (B := fun y => ((y < 0 → _) ∧ (¬ y < 0 → _))) a3 (by omega) (br_c (fun h0 => h4 (Or.inl ⟨z, h0⟩)) (fun h0 => e90 x5 g (fun w => h0 w.2))))
  have e26 : ∀ x5, ta_fl x5 (o = 2 ∨ o = 3 ∨ o = 5 ∨ o = 6) → wX_checkLine_26 post (nI o) (nI a) bI (nI c) x5 xmN xmL xmD xmT xnc xlc xbc xvd xel xkd xke xqd xst xat xpc xdp xtp xK xP xL xbt xbf xR xB xQ xS xt xv := by
    intro x5 g
    unfold wX_checkLine_26
    exact pk_eq o 3 (fun z => e74 x5 1 g (Or.inr ⟨rfl, by omega⟩)) (fun z3 => pk_eq o 6 (fun z => e74 x5 1 g (Or.inr ⟨rfl, by omega⟩)) (fun z6 => pk_eq o 7 (fun z => e74 x5 1 g (Or.inr ⟨rfl, by omega⟩)) (fun z7 => pk_eq o 10 (fun z => e74 x5 1 g (Or.inr ⟨rfl, by omega⟩)) (fun z10 => pk_eq o 11 (fun z => e74 x5 1 g (Or.inr ⟨rfl, by omega⟩)) (fun z11 => pk_eq o 13 (fun z => e74 x5 1 g (Or.inr ⟨rfl, by omega⟩)) (fun z13 => pk_eq o 14 (fun z => e74 x5 1 g (Or.inr ⟨rfl, by omega⟩)) (fun z14 => e74 x5 0 g (Or.inl ⟨rfl, by omega⟩))))))))
  unfold wpX_checkLine
  exact pk_eq o 2 (fun z => e26 1 (Or.inr ⟨rfl, by omega⟩)) (fun z2 => pk_eq o 3 (fun z => e26 1 (Or.inr ⟨rfl, by omega⟩)) (fun z3 => pk_eq o 5 (fun z => e26 1 (Or.inr ⟨rfl, by omega⟩)) (fun z5 => pk_eq o 6 (fun z => e26 1 (Or.inr ⟨rfl, by omega⟩)) (fun z6 => e26 0 (Or.inl ⟨rfl, by omega⟩)))))
theorem ta_ypre {i : Nat} (o14 : o ≤ 14) (a3 : a < 3) (c2 : c < 2) (i40 : i < 40) (hb : (o = 2 ∨ o = 3 ∨ o = 5 ∨ o = 6) → bI = nI b ∧ b < 3) (L0 : yL (4 * i) = nI o) (L1 : yL (4 * i + 1) = nI a) (L2 : yL (4 * i + 2) = bI) (L3 : yL (4 * i + 3) = nI c) {post : Int32 → SY → Prop}
    (h4 : (((o = 3 ∨ o = 6 ∨ o = 7 ∨ o = 10 ∨ o = 11 ∨ o = 13 ∨ o = 14) ∧ yW a < 0) ∨ ((o = 2 ∨ o = 3 ∨ o = 5 ∨ o = 6) ∧ yW b < 0)) → post 4 (ync, ytop, ybc, ylc, yvd, yel, yst, yat, ypc, ydp, ytp, ykd, yke, ymN, ymL, ymD, ymT, yT, yI, yW, yL, ybt, ybf, yt, yv)) (h5 : ¬ (((o = 3 ∨ o = 6 ∨ o = 7 ∨ o = 10 ∨ o = 11 ∨ o = 13 ∨ o = 14) ∧ yW a < 0) ∨ ((o = 2 ∨ o = 3 ∨ o = 5 ∨ o = 6) ∧ yW b < 0)) → ((o = 3 ∧ ¬ yW b = 8) ∨ ((o = 3 ∨ o = 11 ∨ o = 14) ∧ ¬ yW a = 8)) → post 5 (ync, ytop, ybc, ylc, yvd, yel, yst, yat, ypc, ydp, ytp, ykd, yke, ymN, ymL, ymD, ymT, yT, yI, yW, yL, ybt, ybf, yt, yv)) (h : ¬ (((o = 3 ∨ o = 6 ∨ o = 7 ∨ o = 10 ∨ o = 11 ∨ o = 13 ∨ o = 14) ∧ yW a < 0) ∨ ((o = 2 ∨ o = 3 ∨ o = 5 ∨ o = 6) ∧ yW b < 0)) → ¬ ((o = 3 ∧ ¬ yW b = 8) ∨ ((o = 3 ∨ o = 11 ∨ o = 14) ∧ ¬ yW a = 8)) → ∀ z0, ((o = 2 ∨ o = 3 ∨ o = 5 ∨ o = 6) → z0 = yW b) → wY_judge_144 post (nI o) (nI a) bI (nI c) (yW a) z0 ync ytop ybc ylc yvd yel yst yat ypc ydp ytp ykd yke ymN ymL ymD ymT yT yI yW yL ybt ybf yt yv) :
    wpY_judge post (ync, ytop, ybc, ylc, yvd, yel, yst, yat, ypc, ydp, ytp, ykd, yke, ymN, ymL, ymD, ymT, yT, yI, yW, yL, ybt, ybf, yt, yv) (nI i) := by
  have e118 : ∀ z0, ((o = 2 ∨ o = 3 ∨ o = 5 ∨ o = 6) → z0 = yW b) → ¬ (((o = 3 ∨ o = 6 ∨ o = 7 ∨ o = 10 ∨ o = 11 ∨ o = 13 ∨ o = 14) ∧ yW a < 0) ∨ ((o = 2 ∨ o = 3 ∨ o = 5 ∨ o = 6) ∧ yW b < 0)) → (o = 3 → yW b = 8) → wY_judge_118 post (nI o) (nI a) bI (nI c) (yW a) z0 ync ytop ybc ylc yvd yel yst yat ypc ydp ytp ykd yke ymN ymL ymD ymT yT yI yW yL ybt ybf yt yv := by
    intro z0 gz p4 q3
    have e135 : (o = 3 ∨ o = 11 ∨ o = 14) → wY_judge_135 post (nI o) (nI a) bI (nI c) (yW a) z0 ync ytop ybc ylc yvd yel yst yat ypc ydp ytp ykd yke ymN ymL ymD ymT yT yI yW yL ybt ybf yt yv := by
      intro z
      unfold wY_judge_135
      exact br_c (fun h8 => h p4 (fun w => by
        rcases w with w | w
        · exact w.2 (q3 w.1)
        · exact w.2 h8) z0 gz) (fun h8 => h5 p4 (Or.inr ⟨z, h8⟩))
    unfold wY_judge_118
    exact pk_eq o 3 (fun z => e135 (by omega)) (fun z3 => pk_eq o 11 (fun z => e135 (by omega)) (fun z11 => pk_eq o 14 (fun z => e135 (by omega)) (fun z14 => h p4 (fun w => by omega) z0 gz)))
  have e106 : ∀ z0, ((o = 2 ∨ o = 3 ∨ o = 5 ∨ o = 6) → z0 = yW b) → ¬ (((o = 3 ∨ o = 6 ∨ o = 7 ∨ o = 10 ∨ o = 11 ∨ o = 13 ∨ o = 14) ∧ yW a < 0) ∨ ((o = 2 ∨ o = 3 ∨ o = 5 ∨ o = 6) ∧ yW b < 0)) → wY_judge_106 post (nI o) (nI a) bI (nI c) (yW a) z0 ync ytop ybc ylc yvd yel yst yat ypc ydp ytp ykd yke ymN ymL ymD ymT yT yI yW yL ybt ybf yt yv := by
    intro z0 gz p4
    unfold wY_judge_106
    refine pk_eq o 3 (fun z => br_c (fun h8 => e118 z0 gz p4 (fun _ => ?_)) (fun h8 => h5 p4 (Or.inl ⟨z, ?_⟩))) (fun z => e118 z0 gz p4 (fun w => absurd w z))
    · rw [← gz (by omega)]; exact h8
    · rw [← gz (by omega)]; exact h8
  have e94 : ∀ f7 z0, ta_fl f7 (o = 2 ∨ o = 3 ∨ o = 5 ∨ o = 6) → ((o = 2 ∨ o = 3 ∨ o = 5 ∨ o = 6) → z0 = yW b) → ¬ ((o = 3 ∨ o = 6 ∨ o = 7 ∨ o = 10 ∨ o = 11 ∨ o = 13 ∨ o = 14) ∧ yW a < 0) → wY_judge_94 post (nI o) (nI a) bI (nI c) f7 (yW a) z0 ync ytop ybc ylc yvd yel yst yat ypc ydp ytp ykd yke ymN ymL ymD ymT yT yI yW yL ybt ybf yt yv := by
    intro f7 z0 g gz pa
    unfold wY_judge_94
    refine ta_fl_br g (fun z => e106 z0 gz (fun w => ?_)) (fun z => br_c (fun h0 => e106 z0 gz (fun w => ?_)) (fun h0 => h4 (Or.inr ⟨z, ?_⟩)))
    · rcases w with w | w
      · exact pa w
      · exact z w.1
    · rcases w with w | w
      · exact pa w
      · rw [← gz z] at w
        exact Int32.not_lt.mpr h0 w.2
    · rw [← gz z]
      exact Int32.not_le.mp h0
  have e82 : ∀ f6 f7 z0, ta_fl f6 (o = 3 ∨ o = 6 ∨ o = 7 ∨ o = 10 ∨ o = 11 ∨ o = 13 ∨ o = 14) → ta_fl f7 (o = 2 ∨ o = 3 ∨ o = 5 ∨ o = 6) → ((o = 2 ∨ o = 3 ∨ o = 5 ∨ o = 6) → z0 = yW b) → wY_judge_82 post (nI o) (nI a) bI (nI c) f6 f7 (yW a) z0 ync ytop ybc ylc yvd yel yst yat ypc ydp ytp ykd yke ymN ymL ymD ymT yT yI yW yL ybt ybf yt yv := by
    intro f6 f7 z0 g6 g7 gz
    unfold wY_judge_82
    exact ta_fl_br g6 (fun z => e94 f7 z0 g7 gz (fun w => z w.1)) (fun z => br_c (fun h0 => h4 (Or.inl ⟨z, h0⟩)) (fun h0 => e94 f7 z0 g7 gz (fun w => h0 w.2)))
  unfold wpY_judge
  refine ⟨by rw [ta_4]; exact ta_vi (by omega), ?_⟩
  rw [ta_4, nI_clamp (by omega), L0, ta_p1, ta_p2, ta_p3, nI_clamp (by omega), nI_clamp (by omega), nI_clamp (by omega), L1, L2, L3]
  refine nm_e ⟨ta_vi (by omega), nm_e ⟨ta_vi (by omega), nm_e ⟨ta_vi (by omega), nm_e ?_⟩⟩⟩
  have fin : ∀ f6 : Int32, ta_fl f6 (o = 3 ∨ o = 6 ∨ o = 7 ∨ o = 10 ∨ o = 11 ∨ o = 13 ∨ o = 14) → wpY_usesB (fun r_35 => (vp_in (nI a) 11 ∧ (∀ x8_62 : Int32, x8_62 = yW (nI a).toNatClampNeg → (((r_35 = 0 → (wY_judge_82 post (nI o) (nI a) bI (nI c) f6 r_35 x8_62 0 ync ytop ybc ylc yvd yel yst yat ypc ydp ytp ykd yke ymN ymL ymD ymT yT yI yW yL ybt ybf yt yv)) ∧ (¬ r_35 = 0 → (vp_in bI 11 ∧ (wY_judge_82 post (nI o) (nI a) bI (nI c) f6 r_35 x8_62 (yW bI.toNatClampNeg) ync ytop ybc ylc yvd yel yst yat ypc ydp ytp ykd yke ymN ymL ymD ymT yT yI yW yL ybt ybf yt yv)))))))) (ync, ytop, ybc, ylc, yvd, yel, yst, yat, ypc, ydp, ytp, ykd, yke, ymN, ymL, ymD, ymT, yT, yI, yW, yL, ybt, ybf, yt, yv) (nI o) := by
    intro f6 g6
    refine ta_yuB o14 (fun z => ⟨ta_vi (by omega), nm_r (e' := yW a) (by rw [nI_clamp (by omega)]) (br_f (by decide) ?_)⟩) (fun z => ⟨ta_vi (by omega), nm_r (e' := yW a) (by rw [nI_clamp (by omega)]) (br_t rfl (e82 f6 0 0 g6 (Or.inl ⟨rfl, z⟩) (fun w => absurd w z)))⟩)
    obtain ⟨e, b3⟩ := hb z
    rw [e] at e82 ⊢
    rw [nI_clamp (by omega)]
    exact ⟨ta_vi (by omega), e82 f6 1 (yW b) g6 (Or.inr ⟨rfl, z⟩) (fun _ => rfl)⟩
  exact ta_yuA o14 (fun z => fin 1 (Or.inr ⟨rfl, z⟩)) (fun z => fin 0 (Or.inl ⟨rfl, z⟩))
end
end
section
/-! the checker's line, op by op -/
section
variable {xmN xmL xmD xmT xnc xlc xbc xvd xel xkd xke xqd xst xat xpc xdp xtp : Int32} {xK xP xL xbt xbf xR xB xQ xS xt xv : Nat → Int32}
variable {ync ytop ybc ylc yvd yel yst yat ypc ydp ytp ykd yke ymN ymL ymD ymT : Int32} {yT yI yW yL ybt ybf yt yv : Nat → Int32}
variable {K : Nat → Nat} {N : Nat → Nat → Option Nat} {D E : Nat → Nat} {nc mN bc kd ke a b c : Nat} {bI q yt0 : Int32}
def ta_JP (K : Nat → Nat) (N : Nat → Nat → Option Nat) (D E : Nat → Nat) (nc mN bc kd ke o a b c : Nat) (bI : Int32) (xK xbt xP xR xB xQ yT yI yW : Nat → Int32) (q yt0 : Int32) : Prop :=
  ∃ (r kd2 : Nat) (q' top' : Int32) (xP' xR' xB' xQ' yT' yI' yW' : Nat → Int32), (r = 1 ∨ (4 ≤ r ∧ r ≤ 11)) ∧ ta_AR K N D E nc mN xK xP' yT' ∧ ta_KS K nc kd2 ke xP' xR' yW' ∧
    (∀ {xmN xmL xmD xmT xlc xvd xel xst xat xpc xdp xtp : Int32} {xL xbf xt xv : Nat → Int32} (post : Int32 → SX → Prop), post (nI r) (xmN, xmL, xmD, xmT, nI nc, xlc, nI bc, xvd, xel, nI kd2, nI ke, q', xst, xat, xpc, xdp, xtp, xK, xP', xL, xbt, xbf, xR', xB', xQ', fun _ => 0, xt, xv) → wX_checkLine_164 post (nI o) (nI a) bI (nI c) xmN xmL xmD xmT (nI nc) xlc (nI bc) xvd xel (nI kd) (nI ke) q xst xat xpc xdp xtp xK xP xL xbt xbf xR xB xQ (fun _ => 0) xt xv) ∧
    (∀ {ylc yvd yel yst yat ypc ydp ytp ymN ymL ymD ymT : Int32} {yL ybf yt yv : Nat → Int32} (z0 : Int32) (post : Int32 → SY → Prop), ((o = 2 ∨ o = 3 ∨ o = 5 ∨ o = 6) → z0 = yW b) → post (nI r) (nI nc, top', nI bc, ylc, yvd, yel, yst, yat, ypc, ydp, ytp, nI kd2, nI ke, ymN, ymL, ymD, ymT, yT', yI', yW', yL, xbt, ybf, yt, yv) → wY_judge_144 post (nI o) (nI a) bI (nI c) (yW a) z0 (nI nc) yt0 (nI bc) ylc yvd yel yst yat ypc ydp ytp (nI kd) (nI ke) ymN ymL ymD ymT yT yI yW yL xbt ybf yt yv)
theorem ta_xlearn (a3 : a < 3) {x : Int32} {post : Int32 → SX → Prop} (hp : post 1 (xmN, xmL, xmD, xmT, xnc, xlc, xbc, xvd, xel, xkd, xke, xqd, xst, xat, xpc, xdp, xtp, xK, xP, xL, xbt, xbf, upd xR a x, xB, xQ, xS, xt, xv)) : wpX_learn post (xmN, xmL, xmD, xmT, xnc, xlc, xbc, xvd, xel, xkd, xke, xqd, xst, xat, xpc, xdp, xtp, xK, xP, xL, xbt, xbf, xR, xB, xQ, xS, xt, xv) (nI a) x := by
  unfold wpX_learn
  exact ⟨ta_vi a3, nm_r (e' := upd xR a x) (by rw [nI_clamp (by omega)]) hp⟩
theorem ta_AGp {x : Int32} (h : ta_AG K nc x) (h0 : ¬ x < 0) : ta_GP K nc x := by
  obtain ⟨a, e, g⟩ := h
  cases a with
  | none => exact absurd (by rw [e]; decide) h0
  | some w => exact ⟨w, e, g w rfl⟩
theorem ta_GWk {w w' : Nat} (k4 : K (w / 4) = 4) (wn : w / 4 < nc) (h : w' / 4 = w / 4) : ta_GW K nc w' := by
  unfold ta_GW
  rw [h]
  exact ⟨wn, Or.inl k4⟩
theorem ta_tup (A : ta_AR K N D E nc mN xK xP yT) {i c : Nat} (hi : i < nc) (k4 : K i = 4) (c2 : c < 2) : ∃ w', ta_GW K nc w' ∧ xP (4 * i + c) = nI w' ∧ yT (5 * i + 1 + c) = nI w' := by
  obtain ⟨P, H, H1, X, Y, _⟩ := A
  have s := ((P.2.2.2.2.2.2.2 i hi c (by omega)).1 (by omega))
  have x := (X i hi).2 c (by omega)
  have y := (Y i hi).2 c (by omega)
  rw [k4, show ta_pt 4 = 2 from rfl, if_pos c2] at x
  cases e : N i c with
  | none => have := s.2 e; omega
  | some w' =>
    rw [e] at x y
    exact ⟨w', (s.1 w' e).1, x, y⟩
theorem ta_jd0 (A : ta_AR K N D E nc mN xK xP yT) (K3 : ∀ d, d < 8 → K (24 + d) = 3) (S : ta_KS K nc kd ke xP xR yW) (b8 : bc ≤ 8) (pt : ∀ l, l < bc → ∃ t, xbt l = nI t ∧ t < nc ∧ K t = 5) (a3 : a < 3) (c2 : c < 2) : ta_JP K N D E nc mN bc kd ke 0 a b c bI xK xbt xP xR xB xQ yT yI yW q yt0 := by
  have n3 := A.1.1
  have n24 := A.1.2.1
  have k8 := S.1
  have X := A.2.2.2.1
  have Y := A.2.2.2.2.1
  have g8 : ta_AG K nc 8 := ta_AGg ⟨8, rfl, by omega, Or.inr (Or.inr ⟨A.1.2.2.2.2.1, rfl⟩)⟩
  refine ⟨1, kd, q, nI nc, xP, upd xR a 8, xB, xQ, yT, yI, upd yW a 8, Or.inl rfl, A, ta_KS_reg S a3 g8, fun post hp => ?_, fun z0 post gz hp => ?_⟩
  · unfold wX_checkLine_164
    refine br_f (by decide) (br_f (by decide) (br_t rfl ?_))
    refine ta_xlearn a3 ?_
    exact hp
  · unfold wY_judge_144
    refine ta_yuL (o := 0) (by omega) (fun z => absurd z (by decide)) (fun _ => br_t rfl ?_)
    unfold wY_judge_164
    refine br_f (by decide) (br_f (by decide) ?_)
    unfold wY_judge_194
    refine ta_yuC (o := 0) (by omega) (fun z => absurd z (by decide)) (fun _ => br_t rfl ?_)
    unfold wY_judge_214
    refine br_f (by decide) ?_
    unfold wY_judge_236
    refine br_f (by decide) ?_
    unfold wY_judge_254
    refine br_f (by decide) ?_
    unfold wY_judge_277
    refine br_f (by decide) ?_
    unfold wY_judge_320
    refine br_f (by decide) ?_
    unfold wY_judge_338
    refine br_f (by decide) ?_
    unfold wY_judge_361
    refine br_f (by decide) ?_
    unfold wY_judge_394
    refine br_t rfl ?_
    refine ⟨ta_vi (by omega), nm_r (e' := upd yW a (8)) (by rw [nI_clamp (by omega)]) ?_⟩
    unfold wY_judge_406
    refine br_f (by decide) ?_
    unfold wY_judge_428
    refine br_f (by decide) ?_
    unfold wY_judge_441
    refine br_f (by decide) ?_
    unfold wY_judge_456
    refine br_f (by decide) ?_
    unfold wY_judge_483
    refine br_f (by decide) ?_
    unfold wY_judge_502
    refine br_f (by decide) ?_
    unfold wY_judge_561
    refine br_f (by decide) (br_f (by decide) ?_)
    unfold wY_judge_588
    refine br_f (by decide) ?_
    unfold wY_judge_605
    exact br_f (by decide) hp
theorem ta_jd1 (A : ta_AR K N D E nc mN xK xP yT) (K3 : ∀ d, d < 8 → K (24 + d) = 3) (S : ta_KS K nc kd ke xP xR yW) (b8 : bc ≤ 8) (pt : ∀ l, l < bc → ∃ t, xbt l = nI t ∧ t < nc ∧ K t = 5) (a3 : a < 3) (c2 : c < 2) (hb8 : b < 8) : ta_JP K N D E nc mN bc kd ke 1 a b c (nI b) xK xbt xP xR xB xQ yT yI yW q yt0 := by
  have n3 := A.1.1
  have n24 := A.1.2.1
  have k8 := S.1
  have X := A.2.2.2.1
  have Y := A.2.2.2.2.1
  by_cases hl : b < bc
  · obtain ⟨t, et, tn, k5⟩ := pt b hl
    have g : ta_AG K nc (nI (4 * t + 1)) := ta_AGg ⟨4 * t + 1, rfl, by omega, Or.inr (Or.inl ⟨by rw [show (4 * t + 1) / 4 = t by omega]; exact k5, by omega⟩)⟩
    refine ⟨1, kd, q, nI nc, xP, upd xR a (nI (4 * t + 1)), xB, xQ, yT, yI, upd yW a (nI (4 * t + 1)), Or.inl rfl, A, ta_KS_reg S a3 g, fun post hp => ?_, fun z0 post gz hp => ?_⟩
    · unfold wX_checkLine_164
      refine br_f (by decide) (br_f (by decide) (br_f (by decide) (br_t rfl ?_)))
      refine br_t (nI_lt hl (by omega)) ?_
      rw [nI_clamp (n := b) (by omega), et, ta_4, ta_p1]
      refine ⟨ta_vi (by omega), ta_xlearn a3 ?_⟩
      exact hp
    · unfold wY_judge_144
      refine ta_yuL (o := 1) (by omega) (fun _ => br_f (by decide) (br_t (nI_lt hl (by omega)) ?_)) (fun z => absurd (by decide) z)
      unfold wY_judge_164
      refine br_f (by decide) (br_f (by decide) ?_)
      unfold wY_judge_194
      refine ta_yuC (o := 1) (by omega) (fun z => absurd z (by decide)) (fun _ => br_t rfl ?_)
      unfold wY_judge_214
      refine br_f (by decide) ?_
      unfold wY_judge_236
      refine br_f (by decide) ?_
      unfold wY_judge_254
      refine br_f (by decide) ?_
      unfold wY_judge_277
      refine br_f (by decide) ?_
      unfold wY_judge_320
      refine br_f (by decide) ?_
      unfold wY_judge_338
      refine br_f (by decide) ?_
      unfold wY_judge_361
      refine br_f (by decide) ?_
      unfold wY_judge_394
      refine br_f (by decide) ?_
      unfold wY_judge_406
      refine br_t rfl ?_
      rw [nI_clamp (n := b) (by omega), et, ta_4, ta_p1]
      refine ⟨ta_vi (by omega), ⟨ta_vi (by omega), nm_r (e' := upd yW a (nI (4 * t + 1))) (by rw [nI_clamp (by omega)]) ?_⟩⟩
      unfold wY_judge_428
      refine br_f (by decide) ?_
      unfold wY_judge_441
      refine br_f (by decide) ?_
      unfold wY_judge_456
      refine br_f (by decide) ?_
      unfold wY_judge_483
      refine br_f (by decide) ?_
      unfold wY_judge_502
      refine br_f (by decide) ?_
      unfold wY_judge_561
      refine br_f (by decide) (br_f (by decide) ?_)
      unfold wY_judge_588
      refine br_f (by decide) ?_
      unfold wY_judge_605
      exact br_f (by decide) hp
  · refine ⟨9, kd, q, yt0, xP, xR, xB, xQ, yT, yI, yW, Or.inr (by omega), A, S, fun post hp => ?_, fun z0 post gz hp => ?_⟩
    · unfold wX_checkLine_164
      refine br_f (by decide) (br_f (by decide) (br_f (by decide) (br_t rfl ?_)))
      exact br_f (nI_nlt (by omega) (by omega)) hp
    · unfold wY_judge_144
      exact ta_yuL (o := 1) (by omega) (fun _ => br_f (by decide) (br_f (nI_nlt (by omega) (by omega)) hp)) (fun z => absurd (by decide) z)
theorem ta_jd2 (A : ta_AR K N D E nc mN xK xP yT) (K3 : ∀ d, d < 8 → K (24 + d) = 3) (S : ta_KS K nc kd ke xP xR yW) (b8 : bc ≤ 8) (pt : ∀ l, l < bc → ∃ t, xbt l = nI t ∧ t < nc ∧ K t = 5) (a3 : a < 3) (c2 : c < 2) (b3 : b < 3) : ta_JP K N D E nc mN bc kd ke 2 a b c (nI b) xK xbt xP xR xB xQ yT yI yW q yt0 := by
  have n3 := A.1.1
  have n24 := A.1.2.1
  have k8 := S.1
  have X := A.2.2.2.1
  have Y := A.2.2.2.2.1
  obtain ⟨er, ar⟩ := S.2.2.1 b b3
  refine ⟨1, kd, q, nI nc, xP, upd xR a (xR b), xB, xQ, yT, yI, upd yW a (yW b), Or.inl rfl, A, by rw [← er]; exact ta_KS_reg S a3 ar, fun post hp => ?_, fun z0 post gz hp => ?_⟩
  · unfold wX_checkLine_164
    refine br_f (by decide) (br_f (by decide) (br_f (by decide) (br_f (by decide) (br_t rfl ?_))))
    rw [nI_clamp (n := b) (by omega)]
    refine ⟨ta_vi (by omega), ta_xlearn a3 ?_⟩
    exact hp
  · have gz' := gz (by decide)
    subst gz'
    unfold wY_judge_144
    refine ta_yuL (o := 2) (by omega) (fun z => absurd z (by decide)) (fun _ => br_t rfl ?_)
    unfold wY_judge_164
    refine br_f (by decide) (br_f (by decide) ?_)
    unfold wY_judge_194
    refine ta_yuC (o := 2) (by omega) (fun z => absurd z (by decide)) (fun _ => br_t rfl ?_)
    unfold wY_judge_214
    refine br_f (by decide) ?_
    unfold wY_judge_236
    refine br_f (by decide) ?_
    unfold wY_judge_254
    refine br_f (by decide) ?_
    unfold wY_judge_277
    refine br_f (by decide) ?_
    unfold wY_judge_320
    refine br_f (by decide) ?_
    unfold wY_judge_338
    refine br_f (by decide) ?_
    unfold wY_judge_361
    refine br_f (by decide) ?_
    unfold wY_judge_394
    refine br_f (by decide) ?_
    unfold wY_judge_406
    refine br_f (by decide) ?_
    unfold wY_judge_428
    refine br_t rfl ?_
    refine ⟨ta_vi (by omega), nm_r (e' := upd yW a (yW b)) (by rw [nI_clamp (by omega)]) ?_⟩
    unfold wY_judge_441
    refine br_f (by decide) ?_
    unfold wY_judge_456
    refine br_f (by decide) ?_
    unfold wY_judge_483
    refine br_f (by decide) ?_
    unfold wY_judge_502
    refine br_f (by decide) ?_
    unfold wY_judge_561
    refine br_f (by decide) (br_f (by decide) ?_)
    unfold wY_judge_588
    refine br_f (by decide) ?_
    unfold wY_judge_605
    exact br_f (by decide) hp
theorem ta_jd3 (A : ta_AR K N D E nc mN xK xP yT) (K3 : ∀ d, d < 8 → K (24 + d) = 3) (S : ta_KS K nc kd ke xP xR yW) (b8 : bc ≤ 8) (pt : ∀ l, l < bc → ∃ t, xbt l = nI t ∧ t < nc ∧ K t = 5) (a3 : a < 3) (c2 : c < 2) : ta_JP K N D E nc mN bc kd ke 3 a b c (nI b) xK xbt xP xR xB xQ yT yI yW q yt0 := by
  have n3 := A.1.1
  have n24 := A.1.2.1
  have k8 := S.1
  have X := A.2.2.2.1
  have Y := A.2.2.2.2.1
  refine ⟨1, kd, q, nI nc, xP, xR, xB, xQ, yT, yI, yW, Or.inl rfl, A, S, fun post hp => ?_, fun z0 post gz hp => ?_⟩
  · unfold wX_checkLine_164
    refine br_f (by decide) (br_f (by decide) (br_f (by decide) (br_f (by decide) (br_f (by decide) (br_t rfl ?_)))))
    exact hp
  · unfold wY_judge_144
    refine ta_yuL (o := 3) (by omega) (fun z => absurd z (by decide)) (fun _ => br_t rfl ?_)
    unfold wY_judge_164
    refine br_f (by decide) (br_f (by decide) ?_)
    unfold wY_judge_194
    refine ta_yuC (o := 3) (by omega) (fun z => absurd z (by decide)) (fun _ => br_t rfl ?_)
    unfold wY_judge_214
    refine br_f (by decide) ?_
    unfold wY_judge_236
    refine br_f (by decide) ?_
    unfold wY_judge_254
    refine br_f (by decide) ?_
    unfold wY_judge_277
    refine br_f (by decide) ?_
    unfold wY_judge_320
    refine br_f (by decide) ?_
    unfold wY_judge_338
    refine br_f (by decide) ?_
    unfold wY_judge_361
    refine br_f (by decide) ?_
    unfold wY_judge_394
    refine br_f (by decide) ?_
    unfold wY_judge_406
    refine br_f (by decide) ?_
    unfold wY_judge_428
    refine br_f (by decide) ?_
    unfold wY_judge_441
    refine br_f (by decide) ?_
    unfold wY_judge_456
    refine br_f (by decide) ?_
    unfold wY_judge_483
    refine br_f (by decide) ?_
    unfold wY_judge_502
    refine br_f (by decide) ?_
    unfold wY_judge_561
    refine br_f (by decide) (br_f (by decide) ?_)
    unfold wY_judge_588
    refine br_f (by decide) ?_
    unfold wY_judge_605
    exact br_f (by decide) hp
theorem ta_jd4 (A : ta_AR K N D E nc mN xK xP yT) (K3 : ∀ d, d < 8 → K (24 + d) = 3) (S : ta_KS K nc kd ke xP xR yW) (b8 : bc ≤ 8) (pt : ∀ l, l < bc → ∃ t, xbt l = nI t ∧ t < nc ∧ K t = 5) (a3 : a < 3) (c2 : c < 2) (bn : b < nc) (k4 : K b = 4) : ta_JP K N D E nc mN bc kd ke 4 a b c (nI b) xK xbt xP xR xB xQ yT yI yW q yt0 := by
  have n3 := A.1.1
  have n24 := A.1.2.1
  have k8 := S.1
  have X := A.2.2.2.1
  have Y := A.2.2.2.2.1
  have g : ta_AG K nc (nI (4 * b)) := ta_AGg ⟨4 * b, rfl, by omega, Or.inl (by rw [show 4 * b / 4 = b by omega]; exact k4)⟩
  refine ⟨1, kd, q, nI nc, xP, upd xR a (nI (4 * b)), xB, xQ, yT, yI, upd yW a (nI (4 * b)), Or.inl rfl, A, ta_KS_reg S a3 g, fun post hp => ?_, fun z0 post gz hp => ?_⟩
  · unfold wX_checkLine_164
    refine br_f (by decide) (br_f (by decide) (br_f (by decide) (br_f (by decide) (br_f (by decide) (br_f (by decide) (br_t rfl ?_))))))
    rw [ta_4]
    refine ta_xlearn a3 ?_
    exact hp
  · unfold wY_judge_144
    refine ta_yuL (o := 4) (by omega) (fun z => absurd z (by decide)) (fun _ => br_t rfl ?_)
    unfold wY_judge_164
    refine br_f (by decide) (br_f (by decide) ?_)
    unfold wY_judge_194
    refine ta_yuC (o := 4) (by omega) (fun z => absurd z (by decide)) (fun _ => br_t rfl ?_)
    unfold wY_judge_214
    refine br_f (by decide) ?_
    unfold wY_judge_236
    refine br_f (by decide) ?_
    unfold wY_judge_254
    refine br_f (by decide) ?_
    unfold wY_judge_277
    refine br_f (by decide) ?_
    unfold wY_judge_320
    refine br_f (by decide) ?_
    unfold wY_judge_338
    refine br_f (by decide) ?_
    unfold wY_judge_361
    refine br_f (by decide) ?_
    unfold wY_judge_394
    refine br_f (by decide) ?_
    unfold wY_judge_406
    refine br_f (by decide) ?_
    unfold wY_judge_428
    refine br_f (by decide) ?_
    unfold wY_judge_441
    refine br_t rfl ?_
    rw [ta_4]
    refine ⟨ta_vi (by omega), nm_r (e' := upd yW a (nI (4 * b))) (by rw [nI_clamp (by omega)]) ?_⟩
    unfold wY_judge_456
    refine br_f (by decide) ?_
    unfold wY_judge_483
    refine br_f (by decide) ?_
    unfold wY_judge_502
    refine br_f (by decide) ?_
    unfold wY_judge_561
    refine br_f (by decide) (br_f (by decide) ?_)
    unfold wY_judge_588
    refine br_f (by decide) ?_
    unfold wY_judge_605
    exact br_f (by decide) hp
theorem ta_jd5 (A : ta_AR K N D E nc mN xK xP yT) (K3 : ∀ d, d < 8 → K (24 + d) = 3) (S : ta_KS K nc kd ke xP xR yW) (b8 : bc ≤ 8) (pt : ∀ l, l < bc → ∃ t, xbt l = nI t ∧ t < nc ∧ K t = 5) (a3 : a < 3) (c2 : c < 2) (b3 : b < 3) (hb : ¬ xR b < 0) : ta_JP K N D E nc mN bc kd ke 5 a b c (nI b) xK xbt xP xR xB xQ yT yI yW q yt0 := by
  have n3 := A.1.1
  have n24 := A.1.2.1
  have k8 := S.1
  have X := A.2.2.2.1
  have Y := A.2.2.2.2.1
  obtain ⟨er, ar⟩ := S.2.2.1 b b3
  obtain ⟨w, ew, gw⟩ : ta_GP K nc (xR b) := ta_AGp ar hb
  have ew' : yW b = nI w := er.symm.trans ew
  have wl := ta_GWlt n24 gw
  have wn := gw.1
  have k5w := A.1.2.2.2.2.2.1 (w / 4)
  have kY := (Y _ wn).1
  have kX := (X _ wn).1
  by_cases hK : K (w / 4) = 4
  · obtain ⟨w', gw', xc, yc⟩ := ta_tup A wn hK c2
    by_cases hbit : ((nI w >>> (nI c &&& 31)) &&& 1) = 0
    · refine ⟨6, kd, q, yt0, xP, xR, xB, xQ, yT, yI, yW, Or.inr (by omega), A, S, fun post hp => ?_, fun z0 post gz hp => ?_⟩
      · unfold wX_checkLine_164
        refine br_f (by decide) (br_f (by decide) (br_f (by decide) (br_f (by decide) (br_f (by decide) (br_f (by decide) (br_f (by decide) (br_t rfl ?_)))))))
        rw [nI_clamp (n := b) (by omega), ew]
        refine ⟨ta_vi (by omega), ?_⟩
        unfold wpX_checkLoad
        refine ⟨by decide, ?_⟩
        rw [ta_d4 (n := w) (by omega), nI_clamp (by omega), kX]
        exact ⟨ta_vi (by omega), br_t (congrArg nI hK) (br_t hbit hp)⟩
      · have gz' := (gz (by decide)).trans ew'
        subst gz'
        unfold wY_judge_144
        refine ta_yuL (o := 5) (by omega) (fun z => absurd z (by decide)) (fun _ => br_t rfl ?_)
        unfold wY_judge_164
        refine br_f (by decide) (br_f (by decide) ?_)
        unfold wY_judge_194
        refine ta_yuC (o := 5) (by omega) (fun z => absurd z (by decide)) (fun _ => br_t rfl ?_)
        unfold wY_judge_214
        refine br_t rfl ?_
        rw [ta_s2 (n := w) (by omega), ta_5, nI_clamp (by omega), kY]
        refine ⟨ta_vi (by omega), br_t (congrArg nI hK) ?_⟩
        unfold wY_judge_236
        exact br_t rfl (br_t hbit hp)
    · refine ⟨1, kd, q, nI nc, xP, upd xR a (nI w'), xB, xQ, yT, yI, upd yW a (nI w'), Or.inl rfl, A, ta_KS_reg S a3 (ta_AGg ⟨w', rfl, gw'⟩), fun post hp => ?_, fun z0 post gz hp => ?_⟩
      · unfold wX_checkLine_164
        refine br_f (by decide) (br_f (by decide) (br_f (by decide) (br_f (by decide) (br_f (by decide) (br_f (by decide) (br_f (by decide) (br_t rfl ?_)))))))
        rw [nI_clamp (n := b) (by omega), ew]
        refine ⟨ta_vi (by omega), ?_⟩
        unfold wpX_checkLoad
        refine ⟨by decide, ?_⟩
        rw [ta_d4 (n := w) (by omega), nI_clamp (by omega), kX]
        refine ⟨ta_vi (by omega), br_t (congrArg nI hK) (br_f hbit ⟨by decide, ?_⟩)⟩
        rw [ta_4, nI_add, nI_clamp (by omega), xc]
        exact ⟨ta_vi (by omega), ta_xlearn a3 hp⟩
      · have gz' := (gz (by decide)).trans ew'
        subst gz'
        unfold wY_judge_144
        refine ta_yuL (o := 5) (by omega) (fun z => absurd z (by decide)) (fun _ => br_t rfl ?_)
        unfold wY_judge_164
        refine br_f (by decide) (br_f (by decide) ?_)
        unfold wY_judge_194
        refine ta_yuC (o := 5) (by omega) (fun z => absurd z (by decide)) (fun _ => br_t rfl ?_)
        unfold wY_judge_214
        refine br_t rfl ?_
        rw [ta_s2 (n := w) (by omega), ta_5, nI_clamp (by omega), kY]
        refine ⟨ta_vi (by omega), br_t (congrArg nI hK) ?_⟩
        unfold wY_judge_236
        refine br_t rfl (br_f hbit ?_)
        unfold wY_judge_254
        refine br_f (by decide) ?_
        unfold wY_judge_277
        refine br_f (by decide) ?_
        unfold wY_judge_320
        refine br_f (by decide) ?_
        unfold wY_judge_338
        refine br_f (by decide) ?_
        unfold wY_judge_361
        refine br_f (by decide) ?_
        unfold wY_judge_394
        refine br_f (by decide) ?_
        unfold wY_judge_406
        refine br_f (by decide) ?_
        unfold wY_judge_428
        refine br_f (by decide) ?_
        unfold wY_judge_441
        refine br_f (by decide) ?_
        unfold wY_judge_456
        refine br_t rfl ?_
        rw [ta_s2 (n := w) (by omega), ta_5, ta_p1, nI_add, nI_clamp (n := 5 * (w / 4) + 1 + c) (by omega), yc]
        refine ⟨ta_vi (by omega), ⟨ta_vi (by omega), nm_r (e' := upd yW a (nI w')) (by rw [nI_clamp (by omega)]) ?_⟩⟩
        unfold wY_judge_483
        refine br_f (by decide) ?_
        unfold wY_judge_502
        refine br_f (by decide) ?_
        unfold wY_judge_561
        refine br_f (by decide) (br_f (by decide) ?_)
        unfold wY_judge_588
        refine br_f (by decide) ?_
        unfold wY_judge_605
        exact br_f (by decide) hp
  · refine ⟨5, kd, q, yt0, xP, xR, xB, xQ, yT, yI, yW, Or.inr (by omega), A, S, fun post hp => ?_, fun z0 post gz hp => ?_⟩
    · unfold wX_checkLine_164
      refine br_f (by decide) (br_f (by decide) (br_f (by decide) (br_f (by decide) (br_f (by decide) (br_f (by decide) (br_f (by decide) (br_t rfl ?_)))))))
      rw [nI_clamp (n := b) (by omega), ew]
      refine ⟨ta_vi (by omega), ?_⟩
      unfold wpX_checkLoad
      refine ⟨by decide, ?_⟩
      rw [ta_d4 (n := w) (by omega), nI_clamp (by omega), kX]
      exact ⟨ta_vi (by omega), br_f (ta_keq (c := 4) k5w (by omega) hK) hp⟩
    · have gz' := (gz (by decide)).trans ew'
      subst gz'
      unfold wY_judge_144
      refine ta_yuL (o := 5) (by omega) (fun z => absurd z (by decide)) (fun _ => br_t rfl ?_)
      unfold wY_judge_164
      refine br_f (by decide) (br_f (by decide) ?_)
      unfold wY_judge_194
      refine ta_yuC (o := 5) (by omega) (fun z => absurd z (by decide)) (fun _ => br_t rfl ?_)
      unfold wY_judge_214
      refine br_t rfl ?_
      rw [ta_s2 (n := w) (by omega), ta_5, nI_clamp (by omega), kY]
      exact ⟨ta_vi (by omega), br_f (ta_keq (c := 4) k5w (by omega) hK) hp⟩
theorem ta_jd6 (A : ta_AR K N D E nc mN xK xP yT) (K3 : ∀ d, d < 8 → K (24 + d) = 3) (S : ta_KS K nc kd ke xP xR yW) (b8 : bc ≤ 8) (pt : ∀ l, l < bc → ∃ t, xbt l = nI t ∧ t < nc ∧ K t = 5) (a3 : a < 3) (c2 : c < 2) (b3 : b < 3) (hb : ¬ xR b < 0) (ha : ¬ xR a < 0) : ta_JP K N D E nc mN bc kd ke 6 a b c (nI b) xK xbt xP xR xB xQ yT yI yW q yt0 := by
  have n3 := A.1.1
  have n24 := A.1.2.1
  have k8 := S.1
  have X := A.2.2.2.1
  have Y := A.2.2.2.2.1
  obtain ⟨er, ar⟩ := S.2.2.1 a a3
  obtain ⟨w, ew, gw⟩ : ta_GP K nc (xR a) := ta_AGp ar ha
  have ew' : yW a = nI w := er.symm.trans ew
  have wl := ta_GWlt n24 gw
  have wn := gw.1
  have k5w := A.1.2.2.2.2.2.1 (w / 4)
  have kY := (Y _ wn).1
  have kX := (X _ wn).1
  obtain ⟨er2, ar2⟩ := S.2.2.1 b b3
  obtain ⟨h, eh, gh⟩ : ta_GP K nc (xR b) := ta_AGp ar2 hb
  have eh' : yW b = nI h := er2.symm.trans eh
  by_cases hK : K (w / 4) = 4
  · obtain ⟨w', gw', xc, yc⟩ := ta_tup A wn hK c2
    obtain ⟨wo, eo, wo4, _⟩ := ta_orb (w := w) (c := c) (by omega) c2
    obtain ⟨rm, q1, xB1, xQ1, yT1, yI1, R1, T1, GX1, GY1⟩ := ta_fit A.1 A.2.1 A.2.2.1 X Y (ta_FB0 A) (by omega) gh gw' (s := 1) (Or.inl (by omega)) q xB xQ yI
    have A1 := ta_AR_keep A T1
    rcases R1 with z0 | z1
    · subst z0
      refine ⟨11, kd, q1, nI nc, xP, xR, xB1, xQ1, yT1, yI1, yW, Or.inr (by omega), A1, S, fun post hp => ?_, fun z0 post gz hp => ?_⟩
      · unfold wX_checkLine_164
        refine br_f (by decide) (br_f (by decide) (br_f (by decide) (br_f (by decide) (br_f (by decide) (br_f (by decide) (br_f (by decide) (br_f (by decide) (br_t rfl ?_))))))))
        rw [nI_clamp (n := b) (by omega), eh]
        refine ⟨ta_vi (by omega), ?_⟩
        unfold wpX_checkStore
        refine ⟨ta_vi (by omega), nm_r (e' := nI w) (by rw [nI_clamp (by omega), ew]) ⟨by decide, ?_⟩⟩
        rw [ta_d4 (n := w) (by omega), nI_clamp (by omega), kX]
        refine ⟨ta_vi (by omega), br_t (congrArg nI hK) ⟨by decide, ?_⟩⟩
        rw [ta_4, nI_add, nI_clamp (by omega), xc]
        refine ⟨ta_vi (by omega), GX1 _ ?_⟩
        exact br_t rfl hp
      · have gz' := (gz (by decide)).trans eh'
        subst gz'
        rw [ew']
        unfold wY_judge_144
        refine ta_yuL (o := 6) (by omega) (fun z => absurd z (by decide)) (fun _ => br_t rfl ?_)
        unfold wY_judge_164
        refine br_f (by decide) (br_f (by decide) ?_)
        unfold wY_judge_194
        refine ta_yuC (o := 6) (by omega) (fun z => absurd z (by decide)) (fun _ => br_t rfl ?_)
        unfold wY_judge_214
        refine br_f (by decide) ?_
        unfold wY_judge_236
        refine br_f (by decide) ?_
        unfold wY_judge_254
        refine br_t rfl ?_
        rw [ta_s2 (n := w) (by omega), ta_5, nI_clamp (by omega), kY]
        refine ⟨ta_vi (by omega), br_t (congrArg nI hK) ?_⟩
        unfold wY_judge_277
        refine br_t rfl ?_
        rw [ta_s2 (n := w) (by omega), ta_5, ta_p1, nI_add, nI_clamp (by omega), yc]
        refine ⟨ta_vi (by omega), GY1 _ ?_⟩
        exact br_t rfl hp
    · subst z1
      refine ⟨1, kd, q1, nI nc, xP, upd xR a (nI wo), xB1, xQ1, yT1, yI1, upd yW a (nI wo), Or.inl rfl, A1, ta_KS_reg S a3 (ta_AGg ⟨wo, rfl, ta_GWk hK wn wo4⟩), fun post hp => ?_, fun z0 post gz hp => ?_⟩
      · unfold wX_checkLine_164
        refine br_f (by decide) (br_f (by decide) (br_f (by decide) (br_f (by decide) (br_f (by decide) (br_f (by decide) (br_f (by decide) (br_f (by decide) (br_t rfl ?_))))))))
        rw [nI_clamp (n := b) (by omega), eh]
        refine ⟨ta_vi (by omega), ?_⟩
        unfold wpX_checkStore
        refine ⟨ta_vi (by omega), nm_r (e' := nI w) (by rw [nI_clamp (by omega), ew]) ⟨by decide, ?_⟩⟩
        rw [ta_d4 (n := w) (by omega), nI_clamp (by omega), kX]
        refine ⟨ta_vi (by omega), br_t (congrArg nI hK) ⟨by decide, ?_⟩⟩
        rw [ta_4, nI_add, nI_clamp (by omega), xc]
        refine ⟨ta_vi (by omega), GX1 _ (br_f (by decide) ?_)⟩
        rw [eo]
        exact ta_xlearn a3 hp
      · have gz' := (gz (by decide)).trans eh'
        subst gz'
        rw [ew']
        unfold wY_judge_144
        refine ta_yuL (o := 6) (by omega) (fun z => absurd z (by decide)) (fun _ => br_t rfl ?_)
        unfold wY_judge_164
        refine br_f (by decide) (br_f (by decide) ?_)
        unfold wY_judge_194
        refine ta_yuC (o := 6) (by omega) (fun z => absurd z (by decide)) (fun _ => br_t rfl ?_)
        unfold wY_judge_214
        refine br_f (by decide) ?_
        unfold wY_judge_236
        refine br_f (by decide) ?_
        unfold wY_judge_254
        refine br_t rfl ?_
        rw [ta_s2 (n := w) (by omega), ta_5, nI_clamp (by omega), kY]
        refine ⟨ta_vi (by omega), br_t (congrArg nI hK) ?_⟩
        unfold wY_judge_277
        refine br_t rfl ?_
        rw [ta_s2 (n := w) (by omega), ta_5, ta_p1, nI_add, nI_clamp (by omega), yc]
        refine ⟨ta_vi (by omega), GY1 _ ?_⟩
        refine br_f (by decide) ?_
        unfold wY_judge_320
        refine br_f (by decide) ?_
        unfold wY_judge_338
        refine br_f (by decide) ?_
        unfold wY_judge_361
        refine br_f (by decide) ?_
        unfold wY_judge_394
        refine br_f (by decide) ?_
        unfold wY_judge_406
        refine br_f (by decide) ?_
        unfold wY_judge_428
        refine br_f (by decide) ?_
        unfold wY_judge_441
        refine br_f (by decide) ?_
        unfold wY_judge_456
        refine br_f (by decide) ?_
        unfold wY_judge_483
        refine br_t rfl ?_
        rw [eo]
        refine ⟨ta_vi (by omega), nm_r (e' := upd yW a (nI wo)) (by rw [nI_clamp (by omega)]) ?_⟩
        unfold wY_judge_502
        refine br_f (by decide) ?_
        unfold wY_judge_561
        refine br_f (by decide) (br_f (by decide) ?_)
        unfold wY_judge_588
        refine br_f (by decide) ?_
        unfold wY_judge_605
        exact br_f (by decide) hp
  · refine ⟨5, kd, q, yt0, xP, xR, xB, xQ, yT, yI, yW, Or.inr (by omega), A, S, fun post hp => ?_, fun z0 post gz hp => ?_⟩
    · unfold wX_checkLine_164
      refine br_f (by decide) (br_f (by decide) (br_f (by decide) (br_f (by decide) (br_f (by decide) (br_f (by decide) (br_f (by decide) (br_f (by decide) (br_t rfl ?_))))))))
      rw [nI_clamp (n := b) (by omega), eh]
      refine ⟨ta_vi (by omega), ?_⟩
      unfold wpX_checkStore
      refine ⟨ta_vi (by omega), nm_r (e' := nI w) (by rw [nI_clamp (by omega), ew]) ⟨by decide, ?_⟩⟩
      rw [ta_d4 (n := w) (by omega), nI_clamp (by omega), kX]
      exact ⟨ta_vi (by omega), br_f (ta_keq (c := 4) k5w (by omega) hK) hp⟩
    · have gz' := (gz (by decide)).trans eh'
      subst gz'
      rw [ew']
      unfold wY_judge_144
      refine ta_yuL (o := 6) (by omega) (fun z => absurd z (by decide)) (fun _ => br_t rfl ?_)
      unfold wY_judge_164
      refine br_f (by decide) (br_f (by decide) ?_)
      unfold wY_judge_194
      refine ta_yuC (o := 6) (by omega) (fun z => absurd z (by decide)) (fun _ => br_t rfl ?_)
      unfold wY_judge_214
      refine br_f (by decide) ?_
      unfold wY_judge_236
      refine br_f (by decide) ?_
      unfold wY_judge_254
      refine br_t rfl ?_
      rw [ta_s2 (n := w) (by omega), ta_5, nI_clamp (by omega), kY]
      exact ⟨ta_vi (by omega), br_f (ta_keq (c := 4) k5w (by omega) hK) hp⟩
theorem ta_jd7 (A : ta_AR K N D E nc mN xK xP yT) (K3 : ∀ d, d < 8 → K (24 + d) = 3) (S : ta_KS K nc kd ke xP xR yW) (b8 : bc ≤ 8) (pt : ∀ l, l < bc → ∃ t, xbt l = nI t ∧ t < nc ∧ K t = 5) (a3 : a < 3) (c2 : c < 2) (ha : ¬ xR a < 0) : ta_JP K N D E nc mN bc kd ke 7 a b c bI xK xbt xP xR xB xQ yT yI yW q yt0 := by
  have n3 := A.1.1
  have n24 := A.1.2.1
  have k8 := S.1
  have X := A.2.2.2.1
  have Y := A.2.2.2.2.1
  obtain ⟨er, ar⟩ := S.2.2.1 a a3
  obtain ⟨w, ew, gw⟩ : ta_GP K nc (xR a) := ta_AGp ar ha
  have ew' : yW a = nI w := er.symm.trans ew
  have wl := ta_GWlt n24 gw
  have wn := gw.1
  have k5w := A.1.2.2.2.2.2.1 (w / 4)
  have kY := (Y _ wn).1
  have kX := (X _ wn).1
  by_cases hk : kd < 8
  · obtain ⟨yW', s1, s2, GP⟩ := ta_wpsh (o := nI 7) (a := nI a) (b := bI) (x := yW a) kd yW (by omega)
    have SS := ta_KS_push S hk ⟨w, ew, gw⟩ (yW' := upd yW' 3 (yW a)) (by rw [pk_us]; exact er.symm) (fun i h1 h2 => by rw [pk_un (by omega)]; exact s1 i h1 h2) (fun r hr => by rw [pk_un (by omega)]; exact s2 r (by omega))
    refine ⟨1, kd + 1, q, nI nc, ta_pu xP kd ke (xR a), xR, xB, xQ, yT, yI, upd yW' 3 (yW a), Or.inl rfl, ta_AR_P A (fun j hj => ta_pu_lo (by omega)), SS, fun post hp => ?_, fun z0 post gz hp => ?_⟩
    · unfold wX_checkLine_164
      refine br_f (by decide) (br_f (by decide) (br_f (by decide) (br_f (by decide) (br_f (by decide) (br_f (by decide) (br_f (by decide) (br_f (by decide) (br_f (by decide) (br_t rfl ?_)))))))))
      unfold wX_checkLine_339 wpX_checkStackLine
      refine br_t rfl (br_t (nI_lt (b := 8) hk (by decide)) ?_)
      rw [nI_clamp (n := a) (by omega)]
      refine ⟨ta_vi (by omega), ta_xpush hk ?_⟩
      exact hp
    · unfold wY_judge_144
      refine ta_yuL (o := 7) (by omega) (fun z => absurd z (by decide)) (fun _ => br_t rfl ?_)
      unfold wY_judge_164
      refine br_f (by decide) (br_f (by decide) ?_)
      unfold wY_judge_194
      refine ta_yuC (o := 7) (by omega) (fun z => absurd z (by decide)) (fun _ => br_t rfl ?_)
      unfold wY_judge_214
      refine br_f (by decide) ?_
      unfold wY_judge_236
      refine br_f (by decide) ?_
      unfold wY_judge_254
      refine br_f (by decide) ?_
      unfold wY_judge_277
      refine br_f (by decide) ?_
      unfold wY_judge_320
      refine br_t rfl (br_t (nI_lt (b := 8) hk (by decide)) ?_)
      unfold wY_judge_338
      refine br_f (by decide) ?_
      unfold wY_judge_361
      refine br_f (by decide) ?_
      unfold wY_judge_394
      refine br_f (by decide) ?_
      unfold wY_judge_406
      refine br_f (by decide) ?_
      unfold wY_judge_428
      refine br_f (by decide) ?_
      unfold wY_judge_441
      refine br_f (by decide) ?_
      unfold wY_judge_456
      refine br_f (by decide) ?_
      unfold wY_judge_483
      refine br_f (by decide) ?_
      unfold wY_judge_502
      refine br_t rfl ⟨_, GP _ ?_⟩
      rw [wY_judge_514]
      refine br_t (by decide) (nm_e (nm_r (nI_1 kd) ?_))
      unfold wY_judge_561
      refine br_f (by decide) (br_f (by decide) ?_)
      unfold wY_judge_588
      refine br_f (by decide) ?_
      unfold wY_judge_605
      exact br_f (by decide) hp
  · refine ⟨8, kd, q, nI nc, xP, xR, xB, xQ, yT, yI, yW, Or.inr (by omega), A, S, fun post hp => ?_, fun z0 post gz hp => ?_⟩
    · unfold wX_checkLine_164
      refine br_f (by decide) (br_f (by decide) (br_f (by decide) (br_f (by decide) (br_f (by decide) (br_f (by decide) (br_f (by decide) (br_f (by decide) (br_f (by decide) (br_t rfl ?_)))))))))
      unfold wX_checkLine_339 wpX_checkStackLine
      exact br_t rfl (br_f (nI_nlt (b := 8) (by omega) (by omega)) hp)
    · unfold wY_judge_144
      refine ta_yuL (o := 7) (by omega) (fun z => absurd z (by decide)) (fun _ => br_t rfl ?_)
      unfold wY_judge_164
      refine br_f (by decide) (br_f (by decide) ?_)
      unfold wY_judge_194
      refine ta_yuC (o := 7) (by omega) (fun z => absurd z (by decide)) (fun _ => br_t rfl ?_)
      unfold wY_judge_214
      refine br_f (by decide) ?_
      unfold wY_judge_236
      refine br_f (by decide) ?_
      unfold wY_judge_254
      refine br_f (by decide) ?_
      unfold wY_judge_277
      refine br_f (by decide) ?_
      unfold wY_judge_320
      exact br_t rfl (br_f (nI_nlt (b := 8) (by omega) (by omega)) hp)
theorem ta_jd8 (A : ta_AR K N D E nc mN xK xP yT) (K3 : ∀ d, d < 8 → K (24 + d) = 3) (S : ta_KS K nc kd ke xP xR yW) (b8 : bc ≤ 8) (pt : ∀ l, l < bc → ∃ t, xbt l = nI t ∧ t < nc ∧ K t = 5) (a3 : a < 3) (c2 : c < 2) (hb8 : b < 8) : ta_JP K N D E nc mN bc kd ke 8 a b c (nI b) xK xbt xP xR xB xQ yT yI yW q yt0 := by
  have n3 := A.1.1
  have n24 := A.1.2.1
  have k8 := S.1
  have X := A.2.2.2.1
  have Y := A.2.2.2.2.1
  by_cases hd : b < kd
  · obtain ⟨ec, gc⟩ := S.2.2.2.1 b hd
    have S1 := ta_KS_reg S a3 (ta_AGg gc)
    obtain ⟨yW', s1, s2, GP⟩ := ta_wpop (n := kd - 1) (by omega) (kd - 1) 0 (upd yW a (yW (3 + b))) (by omega)
    have SS := ta_KS_pop S1 (by omega) (fun i hi => s1 i (by omega) hi) (fun r hr => s2 r (by omega))
    refine ⟨1, kd - 1, q, nI nc, xP, upd xR a (yW (3 + b)), xB, xQ, yT, yI, yW', Or.inl rfl, A, SS, fun post hp => ?_, fun z0 post gz hp => ?_⟩
    · unfold wX_checkLine_164
      refine br_f (by decide) (br_f (by decide) (br_f (by decide) (br_f (by decide) (br_f (by decide) (br_f (by decide) (br_f (by decide) (br_f (by decide) (br_f (by decide) (br_f (by decide) (br_t rfl ?_))))))))))
      unfold wX_checkLine_339 wpX_checkStackLine
      refine br_f (by decide) (br_t (nI_lt hd (by omega)) (br_f (by decide) (ta_xkc k8 hd ?_)))
      rw [ec]
      exact ⟨ta_vi (by omega), nm_r (e' := upd xR a (yW (3 + b))) (by rw [nI_clamp (by omega)]) (br_t rfl (nm_r (e' := nI (kd - 1)) (by rw [ta_l1, pk_sub (by omega)]) hp))⟩
    · unfold wY_judge_144
      refine ta_yuL (o := 8) (by omega) (fun z => absurd z (by decide)) (fun _ => br_t rfl ?_)
      unfold wY_judge_164
      refine br_f (by decide) (br_f (by decide) ?_)
      unfold wY_judge_194
      refine ta_yuC (o := 8) (by omega) (fun _ => br_f (by decide) (br_t (nI_lt hd (by omega)) ?_)) (fun z => absurd (by decide) z)
      unfold wY_judge_214
      refine br_f (by decide) ?_
      unfold wY_judge_236
      refine br_f (by decide) ?_
      unfold wY_judge_254
      refine br_f (by decide) ?_
      unfold wY_judge_277
      refine br_f (by decide) ?_
      unfold wY_judge_320
      refine br_f (by decide) ?_
      unfold wY_judge_338
      refine br_f (by decide) ?_
      unfold wY_judge_361
      refine br_f (by decide) ?_
      unfold wY_judge_394
      refine br_f (by decide) ?_
      unfold wY_judge_406
      refine br_f (by decide) ?_
      unfold wY_judge_428
      refine br_f (by decide) ?_
      unfold wY_judge_441
      refine br_f (by decide) ?_
      unfold wY_judge_456
      refine br_f (by decide) ?_
      unfold wY_judge_483
      refine br_f (by decide) ?_
      unfold wY_judge_502
      refine br_f (by decide) ?_
      unfold wY_judge_561
      refine br_t rfl ?_
      unfold wY_judge_573
      rw [ta_l3, nI_add, nI_clamp (n := 3 + b) (by omega)]
      refine ⟨ta_vi (by omega), ta_vi (by omega), nm_r (e' := upd yW a (yW (3 + b))) (by rw [nI_clamp (by omega)]) ?_⟩
      unfold wY_judge_588
      refine br_f (by decide) ?_
      unfold wY_judge_605
      exact br_t rfl (nm_r (e' := nI (kd - 1)) (by rw [ta_l1, pk_sub (by omega)]) ⟨_, GP _ hp⟩)
  · refine ⟨7, kd, q, yt0, xP, xR, xB, xQ, yT, yI, yW, Or.inr (by omega), A, S, fun post hp => ?_, fun z0 post gz hp => ?_⟩
    · unfold wX_checkLine_164
      refine br_f (by decide) (br_f (by decide) (br_f (by decide) (br_f (by decide) (br_f (by decide) (br_f (by decide) (br_f (by decide) (br_f (by decide) (br_f (by decide) (br_f (by decide) (br_t rfl ?_))))))))))
      unfold wX_checkLine_339 wpX_checkStackLine
      exact br_f (by decide) (br_f (nI_nlt (by omega) (by omega)) hp)
    · unfold wY_judge_144
      refine ta_yuL (o := 8) (by omega) (fun z => absurd z (by decide)) (fun _ => br_t rfl ?_)
      unfold wY_judge_164
      refine br_f (by decide) (br_f (by decide) ?_)
      unfold wY_judge_194
      exact ta_yuC (o := 8) (by omega) (fun _ => br_f (by decide) (br_f (nI_nlt (by omega) (by omega)) hp)) (fun z => absurd (by decide) z)
theorem ta_jd9 (A : ta_AR K N D E nc mN xK xP yT) (K3 : ∀ d, d < 8 → K (24 + d) = 3) (S : ta_KS K nc kd ke xP xR yW) (b8 : bc ≤ 8) (pt : ∀ l, l < bc → ∃ t, xbt l = nI t ∧ t < nc ∧ K t = 5) (a3 : a < 3) (c2 : c < 2) (hb8 : b < 8) : ta_JP K N D E nc mN bc kd ke 9 a b c (nI b) xK xbt xP xR xB xQ yT yI yW q yt0 := by
  have n3 := A.1.1
  have n24 := A.1.2.1
  have k8 := S.1
  have X := A.2.2.2.1
  have Y := A.2.2.2.2.1
  by_cases hd : b < kd
  · obtain ⟨ec, gc⟩ := S.2.2.2.1 b hd
    refine ⟨1, kd, q, nI nc, xP, upd xR a (yW (3 + b)), xB, xQ, yT, yI, upd yW a (yW (3 + b)), Or.inl rfl, A, ta_KS_reg S a3 (ta_AGg gc), fun post hp => ?_, fun z0 post gz hp => ?_⟩
    · unfold wX_checkLine_164
      refine br_f (by decide) (br_f (by decide) (br_f (by decide) (br_f (by decide) (br_f (by decide) (br_f (by decide) (br_f (by decide) (br_f (by decide) (br_f (by decide) (br_f (by decide) (br_f (by decide) (br_t rfl ?_)))))))))))
      unfold wX_checkLine_339 wpX_checkStackLine
      refine br_f (by decide) (br_t (nI_lt hd (by omega)) (br_f (by decide) (ta_xkc k8 hd ?_)))
      rw [ec]
      exact ⟨ta_vi (by omega), nm_r (e' := upd xR a (yW (3 + b))) (by rw [nI_clamp (by omega)]) (br_f (by decide) hp)⟩
    · unfold wY_judge_144
      refine ta_yuL (o := 9) (by omega) (fun z => absurd z (by decide)) (fun _ => br_t rfl ?_)
      unfold wY_judge_164
      refine br_f (by decide) (br_f (by decide) ?_)
      unfold wY_judge_194
      refine ta_yuC (o := 9) (by omega) (fun _ => br_f (by decide) (br_t (nI_lt hd (by omega)) ?_)) (fun z => absurd (by decide) z)
      unfold wY_judge_214
      refine br_f (by decide) ?_
      unfold wY_judge_236
      refine br_f (by decide) ?_
      unfold wY_judge_254
      refine br_f (by decide) ?_
      unfold wY_judge_277
      refine br_f (by decide) ?_
      unfold wY_judge_320
      refine br_f (by decide) ?_
      unfold wY_judge_338
      refine br_f (by decide) ?_
      unfold wY_judge_361
      refine br_f (by decide) ?_
      unfold wY_judge_394
      refine br_f (by decide) ?_
      unfold wY_judge_406
      refine br_f (by decide) ?_
      unfold wY_judge_428
      refine br_f (by decide) ?_
      unfold wY_judge_441
      refine br_f (by decide) ?_
      unfold wY_judge_456
      refine br_f (by decide) ?_
      unfold wY_judge_483
      refine br_f (by decide) ?_
      unfold wY_judge_502
      refine br_f (by decide) ?_
      unfold wY_judge_561
      refine br_f (by decide) (br_t rfl ?_)
      unfold wY_judge_573
      rw [ta_l3, nI_add, nI_clamp (n := 3 + b) (by omega)]
      refine ⟨ta_vi (by omega), ta_vi (by omega), nm_r (e' := upd yW a (yW (3 + b))) (by rw [nI_clamp (by omega)]) ?_⟩
      unfold wY_judge_588
      refine br_f (by decide) ?_
      unfold wY_judge_605
      exact br_f (by decide) hp
  · refine ⟨7, kd, q, yt0, xP, xR, xB, xQ, yT, yI, yW, Or.inr (by omega), A, S, fun post hp => ?_, fun z0 post gz hp => ?_⟩
    · unfold wX_checkLine_164
      refine br_f (by decide) (br_f (by decide) (br_f (by decide) (br_f (by decide) (br_f (by decide) (br_f (by decide) (br_f (by decide) (br_f (by decide) (br_f (by decide) (br_f (by decide) (br_f (by decide) (br_t rfl ?_)))))))))))
      unfold wX_checkLine_339 wpX_checkStackLine
      exact br_f (by decide) (br_f (nI_nlt (by omega) (by omega)) hp)
    · unfold wY_judge_144
      refine ta_yuL (o := 9) (by omega) (fun z => absurd z (by decide)) (fun _ => br_t rfl ?_)
      unfold wY_judge_164
      refine br_f (by decide) (br_f (by decide) ?_)
      unfold wY_judge_194
      exact ta_yuC (o := 9) (by omega) (fun _ => br_f (by decide) (br_f (nI_nlt (by omega) (by omega)) hp)) (fun z => absurd (by decide) z)
theorem ta_jd10 (A : ta_AR K N D E nc mN xK xP yT) (K3 : ∀ d, d < 8 → K (24 + d) = 3) (S : ta_KS K nc kd ke xP xR yW) (b8 : bc ≤ 8) (pt : ∀ l, l < bc → ∃ t, xbt l = nI t ∧ t < nc ∧ K t = 5) (a3 : a < 3) (c2 : c < 2) (hb8 : b < 8) (ha : ¬ xR a < 0) : ta_JP K N D E nc mN bc kd ke 10 a b c (nI b) xK xbt xP xR xB xQ yT yI yW q yt0 := by
  have n3 := A.1.1
  have n24 := A.1.2.1
  have k8 := S.1
  have X := A.2.2.2.1
  have Y := A.2.2.2.2.1
  obtain ⟨er, ar⟩ := S.2.2.1 a a3
  obtain ⟨w, ew, gw⟩ : ta_GP K nc (xR a) := ta_AGp ar ha
  have ew' : yW a = nI w := er.symm.trans ew
  have wl := ta_GWlt n24 gw
  have wn := gw.1
  have k5w := A.1.2.2.2.2.2.1 (w / 4)
  have kY := (Y _ wn).1
  have kX := (X _ wn).1
  by_cases hd : b < kd
  · refine ⟨1, kd, q, nI nc, upd xP (4 * (23 + kd - b)) (yW a), xR, xB, xQ, yT, yI, upd yW (3 + b) (yW a), Or.inl rfl, ta_AR_P A (fun j hj => pk_un (by omega)), ta_KS_poke S hd ⟨w, ew', gw⟩, fun post hp => ?_, fun z0 post gz hp => ?_⟩
    · unfold wX_checkLine_164
      refine br_f (by decide) (br_f (by decide) (br_f (by decide) (br_f (by decide) (br_f (by decide) (br_f (by decide) (br_f (by decide) (br_f (by decide) (br_f (by decide) (br_f (by decide) (br_f (by decide) (br_f (by decide) (br_t rfl ?_))))))))))))
      unfold wX_checkLine_339 wpX_checkStackLine
      refine br_f (by decide) (br_t (nI_lt hd (by omega)) (br_t rfl ?_))
      have ei : (4 : Int32) * ((23 + nI kd) - nI b) = nI (4 * (23 + kd - b)) := by rw [ta_l23, nI_add, pk_sub (by omega), ta_4]
      rw [ei, nI_clamp (n := a) (by omega), er]
      exact ⟨ta_vi (by omega), ta_vi (by omega), nm_r (e' := upd xP (4 * (23 + kd - b)) (yW a)) (by rw [nI_clamp (by omega)]) hp⟩
    · unfold wY_judge_144
      refine ta_yuL (o := 10) (by omega) (fun z => absurd z (by decide)) (fun _ => br_t rfl ?_)
      unfold wY_judge_164
      refine br_f (by decide) (br_f (by decide) ?_)
      unfold wY_judge_194
      refine ta_yuC (o := 10) (by omega) (fun _ => br_f (by decide) (br_t (nI_lt hd (by omega)) ?_)) (fun z => absurd (by decide) z)
      unfold wY_judge_214
      refine br_f (by decide) ?_
      unfold wY_judge_236
      refine br_f (by decide) ?_
      unfold wY_judge_254
      refine br_f (by decide) ?_
      unfold wY_judge_277
      refine br_f (by decide) ?_
      unfold wY_judge_320
      refine br_f (by decide) ?_
      unfold wY_judge_338
      refine br_f (by decide) ?_
      unfold wY_judge_361
      refine br_f (by decide) ?_
      unfold wY_judge_394
      refine br_f (by decide) ?_
      unfold wY_judge_406
      refine br_f (by decide) ?_
      unfold wY_judge_428
      refine br_f (by decide) ?_
      unfold wY_judge_441
      refine br_f (by decide) ?_
      unfold wY_judge_456
      refine br_f (by decide) ?_
      unfold wY_judge_483
      refine br_f (by decide) ?_
      unfold wY_judge_502
      refine br_f (by decide) ?_
      unfold wY_judge_561
      refine br_f (by decide) (br_f (by decide) ?_)
      unfold wY_judge_588
      refine br_t rfl ?_
      rw [ta_l3, nI_add, nI_clamp (n := 3 + b) (by omega)]
      refine ⟨ta_vi (by omega), nm_e ?_⟩
      unfold wY_judge_605
      exact br_f (by decide) hp
  · refine ⟨7, kd, q, yt0, xP, xR, xB, xQ, yT, yI, yW, Or.inr (by omega), A, S, fun post hp => ?_, fun z0 post gz hp => ?_⟩
    · unfold wX_checkLine_164
      refine br_f (by decide) (br_f (by decide) (br_f (by decide) (br_f (by decide) (br_f (by decide) (br_f (by decide) (br_f (by decide) (br_f (by decide) (br_f (by decide) (br_f (by decide) (br_f (by decide) (br_f (by decide) (br_t rfl ?_))))))))))))
      unfold wX_checkLine_339 wpX_checkStackLine
      exact br_f (by decide) (br_f (nI_nlt (by omega) (by omega)) hp)
    · unfold wY_judge_144
      refine ta_yuL (o := 10) (by omega) (fun z => absurd z (by decide)) (fun _ => br_t rfl ?_)
      unfold wY_judge_164
      refine br_f (by decide) (br_f (by decide) ?_)
      unfold wY_judge_194
      exact ta_yuC (o := 10) (by omega) (fun _ => br_f (by decide) (br_f (nI_nlt (by omega) (by omega)) hp)) (fun z => absurd (by decide) z)
theorem ta_jd11 (A : ta_AR K N D E nc mN xK xP yT) (K3 : ∀ d, d < 8 → K (24 + d) = 3) (S : ta_KS K nc kd ke xP xR yW) (b8 : bc ≤ 8) (pt : ∀ l, l < bc → ∃ t, xbt l = nI t ∧ t < nc ∧ K t = 5) (a3 : a < 3) (c2 : c < 2) (hb8 : b < 8) : ta_JP K N D E nc mN bc kd ke 11 a b c (nI b) xK xbt xP xR xB xQ yT yI yW q yt0 := by
  have n3 := A.1.1
  have n24 := A.1.2.1
  have k8 := S.1
  have X := A.2.2.2.1
  have Y := A.2.2.2.2.1
  by_cases hl : b < bc
  · obtain ⟨t, et, tn, k5⟩ := pt b hl
    obtain ⟨rm, q1, top1, xB1, xQ1, yT1, yI1, R1, T1, GX1, GY1⟩ := ta_meets A K3 S tn k5 (z := 1) (Or.inr rfl) q xB xQ yI yt0
    have A1 := ta_AR_keep A T1
    rcases R1 with z0 | z1
    · subst z0
      refine ⟨10, kd, q1, top1, xP, xR, xB1, xQ1, yT1, yI1, yW, Or.inr (by omega), A1, S, fun post hp => ?_, fun z0 post gz hp => ?_⟩
      · unfold wX_checkLine_164
        refine br_f (by decide) (br_f (by decide) (br_f (by decide) (br_f (by decide) (br_f (by decide) (br_f (by decide) (br_f (by decide) (br_f (by decide) (br_f (by decide) (br_f (by decide) (br_f (by decide) (br_f (by decide) (br_f (by decide) (br_t rfl ?_)))))))))))))
        unfold wX_checkLine_322 wpX_checkJump
        refine br_t (nI_lt hl (by omega)) ?_
        rw [nI_clamp (n := b) (by omega), et]
        refine ⟨ta_vi (by omega), GX1 _ ?_⟩
        exact br_t rfl hp
      · unfold wY_judge_144
        refine ta_yuL (o := 11) (by omega) (fun _ => br_f (by decide) (br_t (nI_lt hl (by omega)) ?_)) (fun z => absurd (by decide) z)
        unfold wY_judge_164
        refine br_t rfl ?_
        unfold wY_judge_176
        rw [nI_clamp (n := b) (by omega), et]
        refine ⟨ta_vi (by omega), GY1 _ ?_⟩
        exact br_t rfl hp
    · subst z1
      refine ⟨1, kd, q1, nI nc, xP, xR, xB1, xQ1, yT1, yI1, yW, Or.inl rfl, A1, S, fun post hp => ?_, fun z0 post gz hp => ?_⟩
      · unfold wX_checkLine_164
        refine br_f (by decide) (br_f (by decide) (br_f (by decide) (br_f (by decide) (br_f (by decide) (br_f (by decide) (br_f (by decide) (br_f (by decide) (br_f (by decide) (br_f (by decide) (br_f (by decide) (br_f (by decide) (br_f (by decide) (br_t rfl ?_)))))))))))))
        unfold wX_checkLine_322 wpX_checkJump
        refine br_t (nI_lt hl (by omega)) ?_
        rw [nI_clamp (n := b) (by omega), et]
        refine ⟨ta_vi (by omega), GX1 _ ?_⟩
        exact br_f (by decide) hp
      · unfold wY_judge_144
        refine ta_yuL (o := 11) (by omega) (fun _ => br_f (by decide) (br_t (nI_lt hl (by omega)) ?_)) (fun z => absurd (by decide) z)
        unfold wY_judge_164
        refine br_t rfl ?_
        unfold wY_judge_176
        rw [nI_clamp (n := b) (by omega), et]
        refine ⟨ta_vi (by omega), GY1 _ ?_⟩
        refine br_f (by decide) ?_
        unfold wY_judge_194
        refine ta_yuC (o := 11) (by omega) (fun z => absurd z (by decide)) (fun _ => br_t rfl ?_)
        unfold wY_judge_214
        refine br_f (by decide) ?_
        unfold wY_judge_236
        refine br_f (by decide) ?_
        unfold wY_judge_254
        refine br_f (by decide) ?_
        unfold wY_judge_277
        refine br_f (by decide) ?_
        unfold wY_judge_320
        refine br_f (by decide) ?_
        unfold wY_judge_338
        refine br_f (by decide) ?_
        unfold wY_judge_361
        refine br_f (by decide) ?_
        unfold wY_judge_394
        refine br_f (by decide) ?_
        unfold wY_judge_406
        refine br_f (by decide) ?_
        unfold wY_judge_428
        refine br_f (by decide) ?_
        unfold wY_judge_441
        refine br_f (by decide) ?_
        unfold wY_judge_456
        refine br_f (by decide) ?_
        unfold wY_judge_483
        refine br_f (by decide) ?_
        unfold wY_judge_502
        refine br_f (by decide) ?_
        unfold wY_judge_561
        refine br_f (by decide) (br_f (by decide) ?_)
        unfold wY_judge_588
        refine br_f (by decide) ?_
        unfold wY_judge_605
        exact br_f (by decide) hp
  · refine ⟨9, kd, q, yt0, xP, xR, xB, xQ, yT, yI, yW, Or.inr (by omega), A, S, fun post hp => ?_, fun z0 post gz hp => ?_⟩
    · unfold wX_checkLine_164
      refine br_f (by decide) (br_f (by decide) (br_f (by decide) (br_f (by decide) (br_f (by decide) (br_f (by decide) (br_f (by decide) (br_f (by decide) (br_f (by decide) (br_f (by decide) (br_f (by decide) (br_f (by decide) (br_f (by decide) (br_t rfl ?_)))))))))))))
      unfold wX_checkLine_322 wpX_checkJump
      exact br_f (nI_nlt (by omega) (by omega)) hp
    · unfold wY_judge_144
      exact ta_yuL (o := 11) (by omega) (fun _ => br_f (by decide) (br_f (nI_nlt (by omega) (by omega)) hp)) (fun z => absurd (by decide) z)
theorem ta_jd12 (A : ta_AR K N D E nc mN xK xP yT) (K3 : ∀ d, d < 8 → K (24 + d) = 3) (S : ta_KS K nc kd ke xP xR yW) (b8 : bc ≤ 8) (pt : ∀ l, l < bc → ∃ t, xbt l = nI t ∧ t < nc ∧ K t = 5) (a3 : a < 3) (c2 : c < 2) (hb8 : b < 8) : ta_JP K N D E nc mN bc kd ke 12 a b c (nI b) xK xbt xP xR xB xQ yT yI yW q yt0 := by
  have n3 := A.1.1
  have n24 := A.1.2.1
  have k8 := S.1
  have X := A.2.2.2.1
  have Y := A.2.2.2.2.1
  by_cases hl : b < bc
  · obtain ⟨t, et, tn, k5⟩ := pt b hl
    obtain ⟨rm, q1, top1, xB1, xQ1, yT1, yI1, R1, T1, GX1, GY1⟩ := ta_meets A K3 S tn k5 (z := 1) (Or.inr rfl) q xB xQ yI yt0
    have A1 := ta_AR_keep A T1
    rcases R1 with z0 | z1
    · subst z0
      refine ⟨10, kd, q1, top1, xP, xR, xB1, xQ1, yT1, yI1, yW, Or.inr (by omega), A1, S, fun post hp => ?_, fun z0 post gz hp => ?_⟩
      · unfold wX_checkLine_164
        refine br_f (by decide) (br_f (by decide) (br_f (by decide) (br_f (by decide) (br_f (by decide) (br_f (by decide) (br_f (by decide) (br_f (by decide) (br_f (by decide) (br_f (by decide) (br_f (by decide) (br_f (by decide) (br_f (by decide) (br_f (by decide) (br_t rfl ?_))))))))))))))
        unfold wX_checkLine_322 wpX_checkJump
        refine br_t (nI_lt hl (by omega)) ?_
        rw [nI_clamp (n := b) (by omega), et]
        refine ⟨ta_vi (by omega), GX1 _ ?_⟩
        exact br_t rfl hp
      · unfold wY_judge_144
        refine ta_yuL (o := 12) (by omega) (fun _ => br_f (by decide) (br_t (nI_lt hl (by omega)) ?_)) (fun z => absurd (by decide) z)
        unfold wY_judge_164
        refine br_f (by decide) (br_t rfl ?_)
        unfold wY_judge_176
        rw [nI_clamp (n := b) (by omega), et]
        refine ⟨ta_vi (by omega), GY1 _ ?_⟩
        exact br_t rfl hp
    · subst z1
      refine ⟨1, kd, q1, nI nc, xP, xR, xB1, xQ1, yT1, yI1, yW, Or.inl rfl, A1, S, fun post hp => ?_, fun z0 post gz hp => ?_⟩
      · unfold wX_checkLine_164
        refine br_f (by decide) (br_f (by decide) (br_f (by decide) (br_f (by decide) (br_f (by decide) (br_f (by decide) (br_f (by decide) (br_f (by decide) (br_f (by decide) (br_f (by decide) (br_f (by decide) (br_f (by decide) (br_f (by decide) (br_f (by decide) (br_t rfl ?_))))))))))))))
        unfold wX_checkLine_322 wpX_checkJump
        refine br_t (nI_lt hl (by omega)) ?_
        rw [nI_clamp (n := b) (by omega), et]
        refine ⟨ta_vi (by omega), GX1 _ ?_⟩
        exact br_f (by decide) hp
      · unfold wY_judge_144
        refine ta_yuL (o := 12) (by omega) (fun _ => br_f (by decide) (br_t (nI_lt hl (by omega)) ?_)) (fun z => absurd (by decide) z)
        unfold wY_judge_164
        refine br_f (by decide) (br_t rfl ?_)
        unfold wY_judge_176
        rw [nI_clamp (n := b) (by omega), et]
        refine ⟨ta_vi (by omega), GY1 _ ?_⟩
        refine br_f (by decide) ?_
        unfold wY_judge_194
        refine ta_yuC (o := 12) (by omega) (fun z => absurd z (by decide)) (fun _ => br_t rfl ?_)
        unfold wY_judge_214
        refine br_f (by decide) ?_
        unfold wY_judge_236
        refine br_f (by decide) ?_
        unfold wY_judge_254
        refine br_f (by decide) ?_
        unfold wY_judge_277
        refine br_f (by decide) ?_
        unfold wY_judge_320
        refine br_f (by decide) ?_
        unfold wY_judge_338
        refine br_f (by decide) ?_
        unfold wY_judge_361
        refine br_f (by decide) ?_
        unfold wY_judge_394
        refine br_f (by decide) ?_
        unfold wY_judge_406
        refine br_f (by decide) ?_
        unfold wY_judge_428
        refine br_f (by decide) ?_
        unfold wY_judge_441
        refine br_f (by decide) ?_
        unfold wY_judge_456
        refine br_f (by decide) ?_
        unfold wY_judge_483
        refine br_f (by decide) ?_
        unfold wY_judge_502
        refine br_f (by decide) ?_
        unfold wY_judge_561
        refine br_f (by decide) (br_f (by decide) ?_)
        unfold wY_judge_588
        refine br_f (by decide) ?_
        unfold wY_judge_605
        exact br_f (by decide) hp
  · refine ⟨9, kd, q, yt0, xP, xR, xB, xQ, yT, yI, yW, Or.inr (by omega), A, S, fun post hp => ?_, fun z0 post gz hp => ?_⟩
    · unfold wX_checkLine_164
      refine br_f (by decide) (br_f (by decide) (br_f (by decide) (br_f (by decide) (br_f (by decide) (br_f (by decide) (br_f (by decide) (br_f (by decide) (br_f (by decide) (br_f (by decide) (br_f (by decide) (br_f (by decide) (br_f (by decide) (br_f (by decide) (br_t rfl ?_))))))))))))))
      unfold wX_checkLine_322 wpX_checkJump
      exact br_f (nI_nlt (by omega) (by omega)) hp
    · unfold wY_judge_144
      exact ta_yuL (o := 12) (by omega) (fun _ => br_f (by decide) (br_f (nI_nlt (by omega) (by omega)) hp)) (fun z => absurd (by decide) z)
theorem ta_jd13 (A : ta_AR K N D E nc mN xK xP yT) (K3 : ∀ d, d < 8 → K (24 + d) = 3) (S : ta_KS K nc kd ke xP xR yW) (b8 : bc ≤ 8) (pt : ∀ l, l < bc → ∃ t, xbt l = nI t ∧ t < nc ∧ K t = 5) (a3 : a < 3) (c2 : c < 2) (ha : ¬ xR a < 0) : ta_JP K N D E nc mN bc kd ke 13 a b c bI xK xbt xP xR xB xQ yT yI yW q yt0 := by
  have n3 := A.1.1
  have n24 := A.1.2.1
  have k8 := S.1
  have X := A.2.2.2.1
  have Y := A.2.2.2.2.1
  obtain ⟨er, ar⟩ := S.2.2.1 a a3
  obtain ⟨w, ew, gw⟩ : ta_GP K nc (xR a) := ta_AGp ar ha
  have ew' : yW a = nI w := er.symm.trans ew
  have wl := ta_GWlt n24 gw
  have wn := gw.1
  have k5w := A.1.2.2.2.2.2.1 (w / 4)
  have kY := (Y _ wn).1
  have kX := (X _ wn).1
  by_cases hK : K (w / 4) = 5
  · obtain ⟨mz0, hmz, mz⟩ : ∃ mz0 : Int32, (mz0 = 0 ∨ mz0 = 1) ∧ ∀ Q : Int32 → Prop, Q mz0 → (nI (w % 4) = 1 → Q 1) ∧ (¬ nI (w % 4) = 1 → Q 0) := by
      by_cases hm : w % 4 = 1
      · exact ⟨1, Or.inr rfl, fun Q hq => br_t (congrArg nI hm) hq⟩
      · exact ⟨0, Or.inl rfl, fun Q hq => br_f (fun z => hm ((nI_eq (by omega) (by omega)).mp (z.trans ta_l1))) hq⟩
    obtain ⟨rm, q1, top1, xB1, xQ1, yT1, yI1, R1, T1, GX1, GY1⟩ := ta_meets A K3 S wn hK (z := mz0) hmz q xB xQ yI (nI nc)
    have A1 := ta_AR_keep A T1
    rcases R1 with z0 | z1
    · subst z0
      refine ⟨10, kd, q1, top1, xP, xR, xB1, xQ1, yT1, yI1, yW, Or.inr (by omega), A1, S, fun post hp => ?_, fun z0 post gz hp => ?_⟩
      · unfold wX_checkLine_164
        refine br_f (by decide) (br_f (by decide) (br_f (by decide) (br_f (by decide) (br_f (by decide) (br_f (by decide) (br_f (by decide) (br_f (by decide) (br_f (by decide) (br_f (by decide) (br_f (by decide) (br_f (by decide) (br_f (by decide) (br_f (by decide) (br_f (by decide) (br_t rfl ?_)))))))))))))))
        rw [nI_clamp (n := a) (by omega), ew]
        refine ⟨ta_vi (by omega), ?_⟩
        unfold wpX_checkReturn
        refine ⟨by decide, ?_⟩
        rw [ta_d4 (n := w) (by omega), nI_clamp (by omega), kX, ta_a3 (n := w) (by omega)]
        refine ⟨ta_vi (by omega), br_t (congrArg nI hK) ⟨by decide, mz (fun z => wX_checkReturn_30 _ z (nI (w / 4)) _ _ _ _ _ _ _ _ _ _ _ _ _ _ _ _ _ _ _ _ _ _ _ _ _ _ _ _) ?_⟩⟩
        unfold wX_checkReturn_30
        refine GX1 _ ?_
        exact br_t rfl hp
      · rw [ew']
        unfold wY_judge_144
        refine ta_yuL (o := 13) (by omega) (fun z => absurd z (by decide)) (fun _ => br_t rfl ?_)
        unfold wY_judge_164
        refine br_f (by decide) (br_f (by decide) ?_)
        unfold wY_judge_194
        refine ta_yuC (o := 13) (by omega) (fun z => absurd z (by decide)) (fun _ => br_t rfl ?_)
        unfold wY_judge_214
        refine br_f (by decide) ?_
        unfold wY_judge_236
        refine br_f (by decide) ?_
        unfold wY_judge_254
        refine br_f (by decide) ?_
        unfold wY_judge_277
        refine br_f (by decide) ?_
        unfold wY_judge_320
        refine br_f (by decide) ?_
        unfold wY_judge_338
        refine br_t rfl ?_
        rw [ta_s2 (n := w) (by omega), ta_5, nI_clamp (by omega), kY]
        refine ⟨ta_vi (by omega), br_t (congrArg nI hK) ?_⟩
        unfold wY_judge_361
        refine br_t rfl ?_
        rw [ta_a3 (n := w) (by omega), ta_s2 (n := w) (by omega)]
        refine mz (fun z => wY_judge_385 post _ _ _ _ _ _ z (nI (w / 4)) _ _ _ _ _ _ _ _ _ _ _ _ _ _ _ _ _ _ _ _ _ _ _ _ _) ?_
        unfold wY_judge_385
        refine GY1 _ ?_
        exact br_t rfl hp
    · subst z1
      refine ⟨1, kd, q1, top1, xP, xR, xB1, xQ1, yT1, yI1, yW, Or.inl rfl, A1, S, fun post hp => ?_, fun z0 post gz hp => ?_⟩
      · unfold wX_checkLine_164
        refine br_f (by decide) (br_f (by decide) (br_f (by decide) (br_f (by decide) (br_f (by decide) (br_f (by decide) (br_f (by decide) (br_f (by decide) (br_f (by decide) (br_f (by decide) (br_f (by decide) (br_f (by decide) (br_f (by decide) (br_f (by decide) (br_f (by decide) (br_t rfl ?_)))))))))))))))
        rw [nI_clamp (n := a) (by omega), ew]
        refine ⟨ta_vi (by omega), ?_⟩
        unfold wpX_checkReturn
        refine ⟨by decide, ?_⟩
        rw [ta_d4 (n := w) (by omega), nI_clamp (by omega), kX, ta_a3 (n := w) (by omega)]
        refine ⟨ta_vi (by omega), br_t (congrArg nI hK) ⟨by decide, mz (fun z => wX_checkReturn_30 _ z (nI (w / 4)) _ _ _ _ _ _ _ _ _ _ _ _ _ _ _ _ _ _ _ _ _ _ _ _ _ _ _ _) ?_⟩⟩
        unfold wX_checkReturn_30
        refine GX1 _ ?_
        exact br_f (by decide) hp
      · rw [ew']
        unfold wY_judge_144
        refine ta_yuL (o := 13) (by omega) (fun z => absurd z (by decide)) (fun _ => br_t rfl ?_)
        unfold wY_judge_164
        refine br_f (by decide) (br_f (by decide) ?_)
        unfold wY_judge_194
        refine ta_yuC (o := 13) (by omega) (fun z => absurd z (by decide)) (fun _ => br_t rfl ?_)
        unfold wY_judge_214
        refine br_f (by decide) ?_
        unfold wY_judge_236
        refine br_f (by decide) ?_
        unfold wY_judge_254
        refine br_f (by decide) ?_
        unfold wY_judge_277
        refine br_f (by decide) ?_
        unfold wY_judge_320
        refine br_f (by decide) ?_
        unfold wY_judge_338
        refine br_t rfl ?_
        rw [ta_s2 (n := w) (by omega), ta_5, nI_clamp (by omega), kY]
        refine ⟨ta_vi (by omega), br_t (congrArg nI hK) ?_⟩
        unfold wY_judge_361
        refine br_t rfl ?_
        rw [ta_a3 (n := w) (by omega), ta_s2 (n := w) (by omega)]
        refine mz (fun z => wY_judge_385 post _ _ _ _ _ _ z (nI (w / 4)) _ _ _ _ _ _ _ _ _ _ _ _ _ _ _ _ _ _ _ _ _ _ _ _ _) ?_
        unfold wY_judge_385
        refine GY1 _ ?_
        refine br_f (by decide) ?_
        unfold wY_judge_394
        refine br_f (by decide) ?_
        unfold wY_judge_406
        refine br_f (by decide) ?_
        unfold wY_judge_428
        refine br_f (by decide) ?_
        unfold wY_judge_441
        refine br_f (by decide) ?_
        unfold wY_judge_456
        refine br_f (by decide) ?_
        unfold wY_judge_483
        refine br_f (by decide) ?_
        unfold wY_judge_502
        refine br_f (by decide) ?_
        unfold wY_judge_561
        refine br_f (by decide) (br_f (by decide) ?_)
        unfold wY_judge_588
        refine br_f (by decide) ?_
        unfold wY_judge_605
        exact br_f (by decide) hp
  · refine ⟨5, kd, q, nI nc, xP, xR, xB, xQ, yT, yI, yW, Or.inr (by omega), A, S, fun post hp => ?_, fun z0 post gz hp => ?_⟩
    · unfold wX_checkLine_164
      refine br_f (by decide) (br_f (by decide) (br_f (by decide) (br_f (by decide) (br_f (by decide) (br_f (by decide) (br_f (by decide) (br_f (by decide) (br_f (by decide) (br_f (by decide) (br_f (by decide) (br_f (by decide) (br_f (by decide) (br_f (by decide) (br_f (by decide) (br_t rfl ?_)))))))))))))))
      rw [nI_clamp (n := a) (by omega), ew]
      refine ⟨ta_vi (by omega), ?_⟩
      unfold wpX_checkReturn
      refine ⟨by decide, ?_⟩
      rw [ta_d4 (n := w) (by omega), nI_clamp (by omega), kX]
      exact ⟨ta_vi (by omega), br_f (ta_keq (c := 5) k5w (by omega) hK) hp⟩
    · rw [ew']
      unfold wY_judge_144
      refine ta_yuL (o := 13) (by omega) (fun z => absurd z (by decide)) (fun _ => br_t rfl ?_)
      unfold wY_judge_164
      refine br_f (by decide) (br_f (by decide) ?_)
      unfold wY_judge_194
      refine ta_yuC (o := 13) (by omega) (fun z => absurd z (by decide)) (fun _ => br_t rfl ?_)
      unfold wY_judge_214
      refine br_f (by decide) ?_
      unfold wY_judge_236
      refine br_f (by decide) ?_
      unfold wY_judge_254
      refine br_f (by decide) ?_
      unfold wY_judge_277
      refine br_f (by decide) ?_
      unfold wY_judge_320
      refine br_f (by decide) ?_
      unfold wY_judge_338
      refine br_t rfl ?_
      rw [ta_s2 (n := w) (by omega), ta_5, nI_clamp (by omega), kY]
      exact ⟨ta_vi (by omega), br_f (ta_keq (c := 5) k5w (by omega) hK) hp⟩
theorem ta_jd14 (A : ta_AR K N D E nc mN xK xP yT) (K3 : ∀ d, d < 8 → K (24 + d) = 3) (S : ta_KS K nc kd ke xP xR yW) (b8 : bc ≤ 8) (pt : ∀ l, l < bc → ∃ t, xbt l = nI t ∧ t < nc ∧ K t = 5) (a3 : a < 3) (c2 : c < 2) : ta_JP K N D E nc mN bc kd ke 14 a b c bI xK xbt xP xR xB xQ yT yI yW q yt0 := by
  have n3 := A.1.1
  have n24 := A.1.2.1
  have k8 := S.1
  have X := A.2.2.2.1
  have Y := A.2.2.2.2.1
  refine ⟨1, kd, q, nI nc, xP, xR, xB, xQ, yT, yI, yW, Or.inl rfl, A, S, fun post hp => ?_, fun z0 post gz hp => ?_⟩
  · unfold wX_checkLine_164
    exact br_f (by decide) (br_t (by decide) hp)
  · unfold wY_judge_144
    refine ta_yuL (o := 14) (by omega) (fun z => absurd z (by decide)) (fun _ => br_t rfl ?_)
    unfold wY_judge_164
    refine br_f (by decide) (br_f (by decide) ?_)
    unfold wY_judge_194
    refine ta_yuC (o := 14) (by omega) (fun z => absurd z (by decide)) (fun _ => br_t rfl ?_)
    unfold wY_judge_214
    refine br_f (by decide) ?_
    unfold wY_judge_236
    refine br_f (by decide) ?_
    unfold wY_judge_254
    refine br_f (by decide) ?_
    unfold wY_judge_277
    refine br_f (by decide) ?_
    unfold wY_judge_320
    refine br_f (by decide) ?_
    unfold wY_judge_338
    refine br_f (by decide) ?_
    unfold wY_judge_361
    refine br_f (by decide) ?_
    unfold wY_judge_394
    refine br_f (by decide) ?_
    unfold wY_judge_406
    refine br_f (by decide) ?_
    unfold wY_judge_428
    refine br_f (by decide) ?_
    unfold wY_judge_441
    refine br_f (by decide) ?_
    unfold wY_judge_456
    refine br_f (by decide) ?_
    unfold wY_judge_483
    refine br_f (by decide) ?_
    unfold wY_judge_502
    refine br_f (by decide) ?_
    unfold wY_judge_561
    refine br_f (by decide) (br_f (by decide) ?_)
    unfold wY_judge_588
    refine br_f (by decide) ?_
    unfold wY_judge_605
    exact br_f (by decide) hp
end
end
section
/-! the checker's line, both sides -/
section
variable {xmN xmL xmD xmT xnc xlc xbc xvd xel xkd xke xqd xst xat xpc xdp xtp : Int32} {xK xP xL xbt xbf xR xB xQ xS xt xv : Nat → Int32}
variable {ync ytop ybc ylc yvd yel yst yat ypc ydp ytp ykd yke ymN ymL ymD ymT : Int32} {yT yI yW yL ybt ybf yt yv : Nat → Int32}
variable {K : Nat → Nat} {N : Nat → Nat → Option Nat} {D E : Nat → Nat} {nc mN bc kd ke i : Nat} {q yt0 : Int32}
def ta_JO (K : Nat → Nat) (N : Nat → Nat → Option Nat) (D E : Nat → Nat) (nc mN bc kd ke i : Nat) (xK xL xbt xP xR xB xQ yT yI yW : Nat → Int32) (q yt0 : Int32) : Prop :=
  ∃ (r kd2 : Nat) (q' top' : Int32) (xP' xR' xB' xQ' yT' yI' yW' : Nat → Int32), (r = 1 ∨ (4 ≤ r ∧ r ≤ 11)) ∧ ta_AR K N D E nc mN xK xP' yT' ∧ ta_KS K nc kd2 ke xP' xR' yW' ∧
    (∀ {xmN xmL xmD xmT xlc xvd xel xst xat xpc xdp xtp : Int32} {xbf xt xv : Nat → Int32} (post : Int32 → SX → Prop), post (nI r) (xmN, xmL, xmD, xmT, nI nc, xlc, nI bc, xvd, xel, nI kd2, nI ke, q', xst, xat, xpc, xdp, xtp, xK, xP', xL, xbt, xbf, xR', xB', xQ', fun _ => 0, xt, xv) → wpX_checkLine post (xmN, xmL, xmD, xmT, nI nc, xlc, nI bc, xvd, xel, nI kd, nI ke, q, xst, xat, xpc, xdp, xtp, xK, xP, xL, xbt, xbf, xR, xB, xQ, fun _ => 0, xt, xv) (xL (4 * i)) (xL (4 * i + 1)) (xL (4 * i + 2)) (xL (4 * i + 3))) ∧
    (∀ {ylc yvd yel yst yat ypc ydp ytp ymN ymL ymD ymT : Int32} {ybf yt yv : Nat → Int32} (post : Int32 → SY → Prop), post (nI r) (nI nc, top', nI bc, ylc, yvd, yel, yst, yat, ypc, ydp, ytp, nI kd2, nI ke, ymN, ymL, ymD, ymT, yT', yI', yW', xL, xbt, ybf, yt, yv) → wpY_judge post (nI nc, yt0, nI bc, ylc, yvd, yel, yst, yat, ypc, ydp, ytp, nI kd, nI ke, ymN, ymL, ymD, ymT, yT, yI, yW, xL, xbt, ybf, yt, yv) (nI i))
theorem ta_line (A : ta_AR K N D E nc mN xK xP yT) (K3 : ∀ d, d < 8 → K (24 + d) = 3) (S : ta_KS K nc kd ke xP xR yW) (b8 : bc ≤ 8) (pt : ∀ l, l < bc → ∃ t, xbt l = nI t ∧ t < nc ∧ K t = 5) (i40 : i < 40) (L : ta_LN K nc xL i) :
    ta_JO K N D E nc mN bc kd ke i xK xL xbt xP xR xB xQ yT yI yW q yt0 := by
  obtain ⟨o, a, c, L0, o14, L1, a3, L3, c2, rest⟩ := L
  obtain ⟨b, hb, hbx⟩ : ∃ b, ((o = 2 ∨ o = 3 ∨ o = 5 ∨ o = 6) → xL (4 * i + 2) = nI b ∧ b < 3) ∧ (o ≠ 0 → xL (4 * i + 2) = nI b ∧ (o = 1 ∨ o = 8 ∨ o = 9 ∨ o = 10 ∨ o = 11 ∨ o = 12 → b < 8) ∧ (o = 2 ∨ o = 3 ∨ o = 5 ∨ o = 6 → b < 3) ∧ (o = 4 → b < nc ∧ K b = 4)) := by
    by_cases z : o = 0
    · exact ⟨0, fun w => by omega, fun w => absurd z w⟩
    · obtain ⟨b, eb, g8, g3, g4, g0⟩ := rest z
      exact ⟨b, fun w => ⟨eb, g3 w⟩, fun _ => ⟨eb, g8, g3, g4⟩⟩
  have er : ∀ r, r < 3 → xR r = yW r := fun r hr => (S.2.2.1 r hr).1
  have ea := er a a3
  have P4e : (((o = 3 ∨ o = 6 ∨ o = 7 ∨ o = 10 ∨ o = 11 ∨ o = 13 ∨ o = 14) ∧ xR a < 0) ∨ ((o = 2 ∨ o = 3 ∨ o = 5 ∨ o = 6) ∧ xR b < 0)) ↔ (((o = 3 ∨ o = 6 ∨ o = 7 ∨ o = 10 ∨ o = 11 ∨ o = 13 ∨ o = 14) ∧ yW a < 0) ∨ ((o = 2 ∨ o = 3 ∨ o = 5 ∨ o = 6) ∧ yW b < 0)) := by
    rw [ea]
    constructor
    · rintro (w | w)
      · exact Or.inl w
      · rw [er b (hb w.1).2] at w; exact Or.inr w
    · rintro (w | w)
      · exact Or.inl w
      · rw [← er b (hb w.1).2] at w; exact Or.inr w
  have P5e : ((o = 3 ∧ ¬ xR b = 8) ∨ ((o = 3 ∨ o = 11 ∨ o = 14) ∧ ¬ xR a = 8)) ↔ ((o = 3 ∧ ¬ yW b = 8) ∨ ((o = 3 ∨ o = 11 ∨ o = 14) ∧ ¬ yW a = 8)) := by
    rw [ea]
    constructor
    · rintro (w | w)
      · rw [er b (hb (by omega)).2] at w; exact Or.inl w
      · exact Or.inr w
    · rintro (w | w)
      · rw [← er b (hb (by omega)).2] at w; exact Or.inl w
      · exact Or.inr w
  by_cases p4 : (((o = 3 ∨ o = 6 ∨ o = 7 ∨ o = 10 ∨ o = 11 ∨ o = 13 ∨ o = 14) ∧ xR a < 0) ∨ ((o = 2 ∨ o = 3 ∨ o = 5 ∨ o = 6) ∧ xR b < 0))
  · refine ⟨4, kd, q, yt0, xP, xR, xB, xQ, yT, yI, yW, Or.inr (by omega), A, S, fun post hp => ?_, fun post hp => ?_⟩
    · rw [L0, L1, L3]
      exact ta_xpre (b := b) o14 a3 hb (fun _ => hp) (fun z => absurd p4 z) (fun z => absurd p4 z)
    · exact ta_ypre (b := b) o14 a3 c2 i40 hb L0 L1 rfl L3 (fun _ => hp) (fun z => absurd (P4e.mp p4) z) (fun z => absurd (P4e.mp p4) z)
  · by_cases p5 : ((o = 3 ∧ ¬ xR b = 8) ∨ ((o = 3 ∨ o = 11 ∨ o = 14) ∧ ¬ xR a = 8))
    · refine ⟨5, kd, q, yt0, xP, xR, xB, xQ, yT, yI, yW, Or.inr (by omega), A, S, fun post hp => ?_, fun post hp => ?_⟩
      · rw [L0, L1, L3]
        exact ta_xpre (b := b) o14 a3 hb (fun z => absurd z p4) (fun _ _ => hp) (fun _ z => absurd p5 z)
      · exact ta_ypre (b := b) o14 a3 c2 i40 hb L0 L1 rfl L3 (fun z => absurd (P4e.mpr z) p4) (fun _ _ => hp) (fun _ z => absurd (P5e.mp p5) z)
    · have J : ta_JP K N D E nc mN bc kd ke o a b c (xL (4 * i + 2)) xK xbt xP xR xB xQ yT yI yW q yt0 := by
        have : o = 0 ∨ o = 1 ∨ o = 2 ∨ o = 3 ∨ o = 4 ∨ o = 5 ∨ o = 6 ∨ o = 7 ∨ o = 8 ∨ o = 9 ∨ o = 10 ∨ o = 11 ∨ o = 12 ∨ o = 13 ∨ o = 14 := by omega
        rcases this with z | z | z | z | z | z | z | z | z | z | z | z | z | z | z
        all_goals subst z
        · exact ta_jd0 A K3 S b8 pt a3 c2
        all_goals obtain ⟨eb, g8, g3, g4⟩ := hbx (by omega)
        · rw [eb]
          exact ta_jd1 A K3 S b8 pt a3 c2 (g8 (by omega))
        · rw [eb]
          exact ta_jd2 A K3 S b8 pt a3 c2 (g3 (by omega))
        · rw [eb]
          exact ta_jd3 A K3 S b8 pt a3 c2
        · rw [eb]
          exact ta_jd4 A K3 S b8 pt a3 c2 (g4 rfl).1 (g4 rfl).2
        · have hB : ¬ xR b < 0 := fun z => p4 (Or.inr ⟨by omega, z⟩)
          rw [eb]
          exact ta_jd5 A K3 S b8 pt a3 c2 (g3 (by omega)) hB
        · have hB : ¬ xR b < 0 := fun z => p4 (Or.inr ⟨by omega, z⟩)
          have hA : ¬ xR a < 0 := fun z => p4 (Or.inl ⟨by omega, z⟩)
          rw [eb]
          exact ta_jd6 A K3 S b8 pt a3 c2 (g3 (by omega)) hB hA
        · have hA : ¬ xR a < 0 := fun z => p4 (Or.inl ⟨by omega, z⟩)
          exact ta_jd7 A K3 S b8 pt a3 c2 hA
        · rw [eb]
          exact ta_jd8 A K3 S b8 pt a3 c2 (g8 (by omega))
        · rw [eb]
          exact ta_jd9 A K3 S b8 pt a3 c2 (g8 (by omega))
        · have hA : ¬ xR a < 0 := fun z => p4 (Or.inl ⟨by omega, z⟩)
          rw [eb]
          exact ta_jd10 A K3 S b8 pt a3 c2 (g8 (by omega)) hA
        · rw [eb]
          exact ta_jd11 A K3 S b8 pt a3 c2 (g8 (by omega))
        · rw [eb]
          exact ta_jd12 A K3 S b8 pt a3 c2 (g8 (by omega))
        · have hA : ¬ xR a < 0 := fun z => p4 (Or.inl ⟨by omega, z⟩)
          exact ta_jd13 A K3 S b8 pt a3 c2 hA
        · exact ta_jd14 A K3 S b8 pt a3 c2

      obtain ⟨r, kd2, q', top', xP', xR', xB', xQ', yT', yI', yW', R, A', S', GX, GY⟩ := J
      refine ⟨r, kd2, q', top', xP', xR', xB', xQ', yT', yI', yW', R, A', S', fun post hp => ?_, fun post hp => ?_⟩
      · rw [L0, L1, L3]
        exact ta_xpre (b := b) o14 a3 hb (fun z => absurd z p4) (fun _ z => absurd z p5) (fun _ _ => GX post hp)
      · exact ta_ypre (b := b) o14 a3 c2 i40 hb L0 L1 rfl L3 (fun z => absurd (P4e.mpr z) p4) (fun _ z => absurd (P5e.mpr z) p5) (fun _ _ z0 gz => GY z0 post gz hp)
end
end
section
/-! loadKnown with enter -/
def ta_tl (N : Nat → Nat → Option Nat) : Nat → Nat → Nat
  | 0, i => i
  | j + 1, i => ta_tl N j ((N i 1).getD 0)
section
variable {xmN xmL xmD xmT xnc xlc xbc xvd xel xkd xke xqd xst xat xpc xdp xtp : Int32} {xK xP xL xbt xbf xR xB xQ xS xt xv : Nat → Int32}
variable {ync ytop ybc ylc yvd yel yst yat ypc ydp ytp ykd yke ymN ymL ymD ymT : Int32} {yT yI yW yL ybt ybf yt yv : Nat → Int32}
variable {K : Nat → Nat} {N : Nat → Nat → Option Nat} {D E : Nat → Nat} {nc mN ke t sc : Nat}
theorem ta_tlf (P : ta_PA K N nc) (H : ta_DE K N D E nc) : ∀ j i, i < nc → ta_SK K i → j ≤ D i → ta_tl N j i < nc ∧ ta_SK K (ta_tl N j i) ∧ D (ta_tl N j i) = D i - j ∧ E (ta_tl N j i) = E i := by
  intro j
  induction j with
  | zero => intro i hi sk _; exact ⟨hi, sk, rfl, rfl⟩
  | succ j ih =>
    intro i hi sk hj
    have h3 : K i = 3 := by
      by_cases z : K i = 3
      · exact z
      · have := ((H i hi sk).2.2 z).1
        omega
    obtain ⟨w, t, e0, e1, g, l0, l1, sk', _⟩ := ta_cons P hi h3
    have hD := (H i hi sk).2.1 h3 t e1
    have := ih t (by omega) sk' (by omega)
    unfold ta_tl
    rw [e1]
    show ta_tl N j t < nc ∧ _
    refine ⟨this.1, this.2.1, ?_, ?_⟩
    · show D (ta_tl N j t) = _
      rw [this.2.2.1]; omega
    · show E (ta_tl N j t) = _
      rw [this.2.2.2]; exact hD.2.symm
theorem ta_tl3 (P : ta_PA K N nc) (H : ta_DE K N D E nc) {j i : Nat} (hi : i < nc) (sk : ta_SK K i) (hj : j < D i) : K (ta_tl N j i) = 3 ∧ ta_tl N j i < nc := by
  obtain ⟨a, b, c, _⟩ := ta_tlf P H j i hi sk (by omega)
  refine ⟨?_, a⟩
  by_cases z : K (ta_tl N j i) = 3
  · exact z
  · have := ((H _ a b).2.2 z).1
    omega
theorem ta_xcw5 (P : ta_PA K N nc) (H : ta_DE K N D E nc) (X : ta_XA K N nc xK xP) {m : Nat} (hm : m < 100) {post : Int32 → Prop} :
    ∀ j i c, i < nc → ta_SK K i → j < D i → c + j = m → post (xP (4 * ta_tl N j i)) → wX_cellWord_5 post (nI m) xmN xmL xmD xmT xnc xlc xbc xvd xel xkd xke xqd xst xat xpc xdp xtp xK xP xL xbt xbf xR xB xQ xS xt xv (j + 1) (nI i) (nI c) := by
  have n24 := P.2.1
  intro j
  induction j with
  | zero =>
    intro i c hi sk hj hc hp
    rw [wX_cellWord_5]
    refine br_t (nI_le (by omega) (by omega)) ?_
    rw [ta_4, nI_clamp (by omega)]
    exact ⟨ta_vi (by omega), hp⟩
  | succ j ih =>
    intro i c hi sk hj hc hp
    have h3 : K i = 3 := (ta_tl3 (j := 0) P H hi sk (by omega)).1
    obtain ⟨w, t, e0, e1, g, l0, l1, sk', p0, p1⟩ := ta_consX P X hi h3
    have hD := (H i hi sk).2.1 h3 t e1
    rw [wX_cellWord_5]
    refine br_f (nI_ge (by omega) (by omega)) ⟨ta_vi (by omega), ?_⟩
    rw [nI_clamp (by omega), (X i hi).1]
    refine br_t (congrArg nI h3) ?_
    rw [ta_4, ta_p1, nI_clamp (by omega), p1]
    refine ⟨ta_vi (by omega), nm_e (nm_r (nI_1 c) (ih t (c + 1) (by omega) sk' (by omega) (by omega) ?_))⟩
    have e : ta_tl N (j + 1) i = ta_tl N j t := by
      show ta_tl N j ((N i 1).getD 0) = _
      rw [e1]; rfl
    rw [e] at hp
    exact hp
/-- the word of cell j -/
def ta_cw (N : Nat → Nat → Option Nat) (sc j : Nat) : Nat := (N (ta_tl N j sc) 0).getD 0
theorem ta_cwf (P : ta_PA K N nc) (H : ta_DE K N D E nc) (sn : sc < nc) (sk : ta_SK K sc) {j : Nat} (hj : j < D sc) : ta_GW K nc (ta_cw N sc j) ∧ (ta_XA K N nc xK xP → xP (4 * ta_tl N j sc) = nI (ta_cw N sc j)) ∧
    (ta_YA K N nc yT → yT (5 * ta_tl N j sc + 1) = nI (ta_cw N sc j)) := by
  obtain ⟨h3, lt⟩ := ta_tl3 P H sn sk hj
  obtain ⟨w, t, e0, e1, g, _⟩ := ta_cons P lt h3
  unfold ta_cw
  rw [e0]
  refine ⟨g, fun X => ?_, fun Y => ?_⟩
  · have := (X _ lt).2 0 (by omega)
    rw [h3, if_pos (by decide), e0] at this
    exact this
  · have := (Y _ lt).2 0 (by omega)
    rw [e0] at this
    exact this
theorem ta_load65 (A : ta_AR K N D E nc mN xK xP yT) (sn : sc < nc) (sk : ta_SK K sc) (e01 : ke = 0 ∨ ke = 1) :
    ∀ (f p : Nat) (xP1 : Nat → Int32), p + f = D sc → (∀ j, j < 96 → xP1 j = xP j) → (∀ d, d < p → xP1 (4 * (24 + d)) = nI (ta_cw N sc (D sc - 1 - d)) ∧ xP1 (4 * (24 + d) + 1) = nI (ta_rx ke d)) →
      ∃ xP2 : Nat → Int32, (∀ j, j < 96 → xP2 j = xP j) ∧ (∀ d, d < D sc → xP2 (4 * (24 + d)) = nI (ta_cw N sc (D sc - 1 - d)) ∧ xP2 (4 * (24 + d) + 1) = nI (ta_rx ke d)) ∧
        ∀ {xmN xmL xmD xmT xnc xlc xbc xvd xel xqd xst xat xpc xdp xtp : Int32} {xL xbt xbf xR xB xQ xS xt xv : Nat → Int32} (post : SX → Prop), post (xmN, xmL, xmD, xmT, xnc, xlc, xbc, xvd, xel, nI (D sc), nI ke, xqd, xst, xat, xpc, xdp, xtp, xK, xP2, xL, xbt, xbf, xR, xB, xQ, xS, xt, xv) → wX_loadKnown_65 post (nI sc) (f + 1) (nI (D sc - p) - 1) xmN xmL xmD xmT xnc xlc xbc xvd xel (nI p) (nI ke) xqd xst xat xpc xdp xtp xK xP1 xL xbt xbf xR xB xQ xS xt xv := by
  have P := A.1
  have H := A.2.1
  have n24 := P.2.1
  have d6 := (H sc sn sk).1
  intro f
  induction f with
  | zero =>
    intro p xP1 hp h1 h2
    have : p = D sc := by omega
    subst this
    refine ⟨xP1, h1, h2, fun post hpp => ?_⟩
    rw [wX_loadKnown_65, Nat.sub_self]
    exact br_t (by decide) hpp
  | succ f ih =>
    intro p xP1 hp h1 h2
    obtain ⟨m, hm⟩ : ∃ m, D sc - p = m + 1 := ⟨D sc - p - 1, by omega⟩
    have A1 := ta_AR_P A h1
    obtain ⟨gw, xw, _⟩ := ta_cwf (xK := xK) (xP := xP1) (yT := yT) P H sn sk (j := m) (by omega)
    have xw := xw A1.2.2.2.1
    obtain ⟨xP2, q1, q2, G⟩ := ih (p + 1) (ta_pu xP1 p ke (nI (ta_cw N sc m))) (by omega) (fun j hj => by rw [ta_pu_lo (by omega)]; exact h1 j hj) (by
      intro d hd
      by_cases c : d = p
      · subst c
        unfold ta_pu
        rw [pk_us, pk_un (by omega), pk_us, show D sc - 1 - d = m by omega]
        exact ⟨rfl, rfl⟩
      · rw [ta_pu_lo (by omega), ta_pu_lo (by omega)]
        exact h2 d (by omega))
    refine ⟨xP2, q1, q2, fun post hpp => ?_⟩
    rw [wX_loadKnown_65, hm, nI_pred]
    refine br_f (nI_pos (by omega)) ⟨m + 1, ta_xcw5 P H A1.2.2.2.1 (by omega) m sc 0 sn sk (by omega) (by omega) ?_⟩
    rw [xw]
    refine ta_xpush (by omega) (nm_r (ta_pm1 m) ?_)
    have g := G post hpp
    rw [show D sc - (p + 1) = m by omega] at g
    exact g
theorem ta_ent53 (A : ta_AR K N D E nc mN xK xP yT) (sn : sc < nc) (sk : ta_SK K sc) :
    ∀ (f j : Nat) (yW : Nat → Int32), j + f = D sc → ∃ yW' : Nat → Int32, (∀ i, j ≤ i → i < D sc → yW' (3 + i) = nI (ta_cw N sc i)) ∧ (∀ i, i < 3 + j → yW' i = yW i) ∧
      ∀ {ync ytop ybc ylc yvd yel yst yat ypc ydp ytp yke ymN ymL ymD ymT : Int32} {yI yL ybt ybf yt yv : Nat → Int32} (post : SY → Prop), post (ync, ytop, ybc, ylc, yvd, yel, yst, yat, ypc, ydp, ytp, nI (D sc), nI (E sc), ymN, ymL, ymD, ymT, yT, yI, yW', yL, ybt, ybf, yt, yv) → wY_enter_53 post ync ytop ybc ylc yvd yel yst yat ypc ydp ytp (nI (D sc)) yke ymN ymL ymD ymT (f + 1) (nI (ta_tl N j sc)) (nI j) yT yI yW yL ybt ybf yt yv := by
  have P := A.1
  have H := A.2.1
  have Y := A.2.2.2.2.1
  have n24 := P.2.1
  have d6 := (H sc sn sk).1
  intro f
  induction f with
  | zero =>
    intro j yW hj
    refine ⟨yW, fun i h1 h2 => by omega, fun _ _ => rfl, fun post hp => ?_⟩
    obtain ⟨a, b, c, d⟩ := ta_tlf P H j sc sn sk (by omega)
    have n3 : K (ta_tl N j sc) ≠ 3 := by
      intro h3
      obtain ⟨w, t, e0, e1, _⟩ := ta_cons P a h3
      have := ((H _ a b).2.1 h3 t e1).1
      omega
    have e := ((H _ a b).2.2 n3).2
    rw [d] at e
    rw [wY_enter_53, ← e]
    exact br_t (nI_le (by omega) (by omega)) hp
  | succ f ih =>
    intro j yW hj
    obtain ⟨h3, lt⟩ := ta_tl3 P H sn sk (j := j) (by omega)
    obtain ⟨gw, _, yw⟩ := ta_cwf (xK := xK) (xP := xP) (yT := yT) P H sn sk (j := j) (by omega)
    have yw := yw Y
    obtain ⟨w, t, e0, e1, g, l0, l1, sk', y0, y1⟩ := ta_consY P Y lt h3
    have et : ta_tl N (j + 1) sc = t := by
      have key : ∀ j i, ta_tl N (j + 1) i = (N (ta_tl N j i) 1).getD 0 := by
        intro j
        induction j with
        | zero => intro i; rfl
        | succ j ih2 =>
          intro i
          show ta_tl N (j + 1) ((N i 1).getD 0) = _
          rw [ih2]; rfl
      rw [key, e1]; rfl
    obtain ⟨yW', q1, q2, G⟩ := ih (j + 1) (upd yW (3 + j) (nI (ta_cw N sc j))) (by omega)
    refine ⟨yW', fun i h1 h2 => ?_, fun i hi => ?_, fun post hp => ?_⟩
    · by_cases c : i = j
      · subst c
        rw [q2 _ (by omega), pk_us]
      · exact q1 i (by omega) h2
    · rw [q2 i (by omega), pk_un (by omega)]
    · rw [wY_enter_53]
      refine br_f (nI_ge (by omega) (by omega)) ?_
      rw [ta_5, ta_p1, ta_p2, nI_clamp (by omega), nI_clamp (by omega), yw, y1, ta_l3, nI_add, nI_clamp (by omega)]
      refine ⟨ta_vi (by omega), ta_vi (by omega), nm_e ⟨ta_vi (by omega), nm_e (nm_r (nI_1 j) ?_)⟩⟩
      rw [← et]
      exact G post hp
def ta_u3 (f : Nat → Int32) (x0 x1 x2 : Int32) : Nat → Int32 := upd (upd (upd f 0 x0) 1 x1) 2 x2
theorem ta_u3r (f : Nat → Int32) (x0 x1 x2 : Int32) : ta_u3 f x0 x1 x2 0 = x0 ∧ ta_u3 f x0 x1 x2 1 = x1 ∧ ta_u3 f x0 x1 x2 2 = x2 := by
  unfold ta_u3
  refine ⟨?_, ?_, ?_⟩
  · rw [pk_un (by omega), pk_un (by omega), pk_us]
  · rw [pk_un (by omega), pk_us]
  · rw [pk_us]
theorem ta_load (A : ta_AR K N D E nc mN xK xP yT) (tn : t < nc) (k5 : K t = 5) (xR yW : Nat → Int32) : ∃ (kd ke : Nat) (xP' xR' yW' : Nat → Int32), ta_AR K N D E nc mN xK xP' yT ∧ ta_KS K nc kd ke xP' xR' yW' ∧
    (∀ {xmN xmL xmD xmT xnc xlc xbc xvd xel xkd xke xqd xst xat xpc xdp xtp : Int32} {xL xbt xbf xB xQ xS xt xv : Nat → Int32} (post : SX → Prop), post (xmN, xmL, xmD, xmT, xnc, xlc, xbc, xvd, xel, nI kd, nI ke, xqd, xst, xat, xpc, xdp, xtp, xK, xP', xL, xbt, xbf, xR', xB, xQ, xS, xt, xv) → wpX_loadKnown post (xmN, xmL, xmD, xmT, xnc, xlc, xbc, xvd, xel, xkd, xke, xqd, xst, xat, xpc, xdp, xtp, xK, xP, xL, xbt, xbf, xR, xB, xQ, xS, xt, xv) (nI t)) ∧
    (∀ {ync ytop ybc ylc yvd yel yst yat ypc ydp ytp ykd yke ymN ymL ymD ymT : Int32} {yI yL ybt ybf yt yv : Nat → Int32} (post : SY → Prop), post (ync, ytop, ybc, ylc, yvd, yel, yst, yat, ypc, ydp, ytp, nI kd, nI ke, ymN, ymL, ymD, ymT, yT, yI, yW', yL, ybt, ybf, yt, yv) → wpY_enter post (ync, ytop, ybc, ylc, yvd, yel, yst, yat, ypc, ydp, ytp, ykd, yke, ymN, ymL, ymD, ymT, yT, yI, yW, yL, ybt, ybf, yt, yv) (nI t)) := by
  have P := A.1
  have H := A.2.1
  have X := A.2.2.2.1
  have Y := A.2.2.2.2.1
  have n24 := P.2.1
  obtain ⟨sc, e3, lt, sk, x3, y3, xr, gr, yr⟩ := ta_code P X Y tn k5
  have sn : sc < nc := by omega
  have d6 := (H sc sn sk).1
  have e01 := A.2.2.1 sc sn sk
  obtain ⟨xP', q1, q2, GX⟩ := ta_load65 A sn sk e01 (D sc) 0 xP (by omega) (fun _ _ => rfl) (fun d hd => by omega)
  obtain ⟨yW', w1, w2, GY⟩ := ta_ent53 A sn sk (D sc) 0 (ta_u3 yW (yT (5 * t + 1 + 0)) (yT (5 * t + 1 + 1)) (yT (5 * t + 1 + 2))) (by omega)
  obtain ⟨u0, u1, u2⟩ := ta_u3r yW (yT (5 * t + 1 + 0)) (yT (5 * t + 1 + 1)) (yT (5 * t + 1 + 2))
  obtain ⟨v0, v1, v2⟩ := ta_u3r xR (xP (4 * t + 0)) (xP (4 * t + 1)) (xP (4 * t + 2))
  refine ⟨D sc, E sc, xP', ta_u3 xR (xP (4 * t + 0)) (xP (4 * t + 1)) (xP (4 * t + 2)), yW', ta_AR_P A q1, ⟨by omega, e01, ?_, fun j hj => ?_, fun d hd => (q2 d hd).2⟩, fun post hp => ?_, fun post hp => ?_⟩
  · have key : ∀ r, r < 3 → xP (4 * t + r) = yT (5 * t + 1 + r) ∧ ta_AG K nc (xP (4 * t + r)) := by
      intro r hr
      rw [xr r hr, yr r hr]
      exact ⟨rfl, N t r, rfl, gr r hr⟩
    intro r hr
    rw [w2 r (by omega)]
    rcases Nat.lt_or_ge r 1 with z | z
    · have : r = 0 := by omega
      subst this
      rw [u0, v0]; exact key 0 (by omega)
    · rcases Nat.lt_or_ge r 2 with z | z
      · have : r = 1 := by omega
        subst this
        rw [u1, v1]; exact key 1 (by omega)
      · have : r = 2 := by omega
        subst this
        rw [u2, v2]; exact key 2 (by omega)
  · have h := (q2 (D sc - 1 - j) (by omega)).1
    rw [show D sc - 1 - (D sc - 1 - j) = j by omega, show 24 + (D sc - 1 - j) = 23 + D sc - j by omega] at h
    rw [w1 j (by omega) hj]
    exact ⟨h, _, rfl, (ta_cwf (xK := xK) (xP := xP) (yT := yT) P H sn sk hj).1⟩
  · unfold wpX_loadKnown
    refine ⟨0 + 1 + 1 + 1 + 1, ?_⟩
    rw [wX_loadKnown_2]
    refine br_f (by decide) ?_
    rw [ta_4, ta_l0, nI_add, nI_clamp (by omega), nI_clamp (by omega)]
    refine ⟨ta_vi (by omega), ta_vi (by omega), nm_e (nm_r (e' := nI 1) rfl ?_)⟩
    rw [wX_loadKnown_2]
    refine br_f (by decide) ?_
    rw [ta_4, nI_add, nI_clamp (by omega), nI_clamp (by omega)]
    refine ⟨ta_vi (by omega), ta_vi (by omega), nm_e (nm_r (e' := nI 2) rfl ?_)⟩
    rw [wX_loadKnown_2]
    refine br_f (by decide) ?_
    rw [ta_4, nI_add, nI_clamp (by omega), nI_clamp (by omega)]
    refine ⟨ta_vi (by omega), ta_vi (by omega), nm_e (nm_r (e' := nI 3) rfl ?_)⟩
    rw [wX_loadKnown_2]
    refine br_t (by decide) ?_
    rw [ta_4, ta_p3, nI_clamp (by omega), x3]
    refine ⟨ta_vi (by omega), nm_e ?_⟩
    refine ta_xcells P X H sn sk ?_
    refine ta_xend P X H sn sk ?_
    exact nm_e ⟨_, GX _ hp⟩
  · unfold wpY_enter
    refine ⟨by rw [ta_5, ta_p4]; exact ta_vi (by omega), ?_⟩
    rw [ta_5, ta_p4, nI_clamp (by omega), y3]
    refine nm_e ⟨0 + 1 + 1 + 1 + 1, ?_⟩
    rw [wY_enter_13]
    refine br_f (by decide) ?_
    rw [ta_5, ta_p1, ta_l0, nI_add, nI_clamp (by omega), nI_clamp (by omega)]
    refine ⟨ta_vi (by omega), ta_vi (by omega), nm_e (nm_r (e' := nI 1) rfl ?_)⟩
    rw [wY_enter_13]
    refine br_f (by decide) ?_
    rw [ta_5, ta_p1, nI_add, nI_clamp (by omega), nI_clamp (by omega)]
    refine ⟨ta_vi (by omega), ta_vi (by omega), nm_e (nm_r (e' := nI 2) rfl ?_)⟩
    rw [wY_enter_13]
    refine br_f (by decide) ?_
    rw [ta_5, ta_p1, nI_add, nI_clamp (by omega), nI_clamp (by omega)]
    refine ⟨ta_vi (by omega), ta_vi (by omega), nm_e (nm_r (e' := nI 3) rfl ?_)⟩
    rw [wY_enter_13]
    refine br_t (by decide) ?_
    refine ta_ycells P Y H sn sk ?_
    exact ⟨_, GY _ hp⟩
end
end
section
/-! the checker: a block, the program -/
section
variable {xmN xmL xmD xmT xnc xlc xbc xvd xel xkd xke xqd xst xat xpc xdp xtp : Int32} {xK xP xL xbt xbf xR xB xQ xS xt xv : Nat → Int32}
variable {ync ytop ybc ylc yvd yel yst yat ypc ydp ytp ykd yke ymN ymL ymD ymT : Int32} {yT yI yW yL ybt ybf yt yv : Nat → Int32}
variable {K : Nat → Nat} {N : Nat → Nat → Option Nat} {D E : Nat → Nat} {nc mN bc lc : Nat}
theorem ta_AR_K {K' : Nat → Nat} (hK : ∀ i, i < nc → K' i = K i) (h5 : ∀ i, K' i ≤ 5) (A : ta_AR K N D E nc mN xK xP yT) : ta_AR K' N D E nc mN xK xP yT := by
  obtain ⟨P, H, H1, X, Y, C, r⟩ := A
  have n3 := P.1
  have sk : ∀ i, i < nc → ta_SK K' i → ta_SK K i := fun i hi h => by unfold ta_SK at h ⊢; rw [hK i hi] at h; exact h
  refine ⟨⟨P.1, P.2.1, by rw [hK _ (by omega)]; exact P.2.2.1, by rw [hK _ (by omega)]; exact P.2.2.2.1, by rw [hK _ (by omega)]; exact P.2.2.2.2.1, h5, fun i a b => by rw [hK _ b]; exact P.2.2.2.2.2.2.1 i a b, fun i hi j hj => ?_⟩, fun i hi h => ?_, fun i hi h => H1 i hi (sk i hi h), fun i hi => ?_, fun i hi => ?_, C, r⟩
  · have s := P.2.2.2.2.2.2.2 i hi j hj
    unfold ta_SL at s ⊢
    rw [hK i hi]
    refine ⟨fun h => ⟨fun w hw => ?_, (s.1 h).2⟩, fun h => ⟨fun h' => ?_, (s.2 h).2⟩⟩
    · have g := (s.1 h).1 w hw
      exact ⟨ta_GW_mono hK (Nat.le_refl _) g.1, g.2⟩
    · obtain ⟨t, e, lt, k⟩ := (s.2 h).1 h'
      exact ⟨t, e, lt, ta_SK_mono hK (by omega) k⟩
  · rw [hK i hi]; exact H i hi (sk i hi h)
  · rw [hK i hi]; exact X i hi
  · rw [hK i hi]; exact Y i hi
theorem ta_blk (K3 : ∀ d, d < 8 → K (24 + d) = 3) (b8 : bc ≤ 8) (l40 : lc ≤ 40) (pt : ∀ l, l < bc → ∃ t, xbt l = nI t ∧ t < nc ∧ K t = 5) (pl : ∀ i, i < lc → ta_LN K nc xL i) {e : Nat} (el : e ≤ lc) {x1 : Int32} :
    ∀ (d i kd ke : Nat) (q yt0 : Int32) (xP xR xB xQ yT yI yW : Nat → Int32), e - i = d → i ≤ 40 → ta_AR K N D E nc mN xK xP yT → ta_KS K nc kd ke xP xR yW →
      ∃ (r el kd2 ke2 : Nat) (q' top' : Int32) (xP' xR' xB' xQ' yT' yI' yW' : Nat → Int32), (r = 1 ∨ (2 ≤ r ∧ r ≤ 11)) ∧ el ≤ 40 ∧ ta_AR K N D E nc mN xK xP' yT' ∧ ta_KS K nc kd2 ke2 xP' xR' yW' ∧
        (∀ {xmN xmL xmD xmT xlc xvd xst xat xpc xdp xtp : Int32} {xbf xt xv : Nat → Int32} (post : Int32 → SX → Prop), (r = 1 → post (nI 1) (xmN, xmL, xmD, xmT, nI nc, xlc, nI bc, xvd, -1, nI kd2, nI ke2, q', xst, xat, xpc, xdp, xtp, xK, xP', xL, xbt, xbf, xR', xB', xQ', fun _ => 0, xt, xv)) → (r ≠ 1 → post (nI r) (xmN, xmL, xmD, xmT, nI nc, xlc, nI bc, xvd, nI el, nI kd2, nI ke2, q', xst, xat, xpc, xdp, xtp, xK, xP', xL, xbt, xbf, xR', xB', xQ', fun _ => 0, xt, xv)) → wX_checkBlock_13 post (nI e) (d + 1) (nI i) xmN xmL xmD xmT (nI nc) xlc (nI bc) xvd (-1) (nI kd) (nI ke) q xst xat xpc xdp xtp xK xP xL xbt xbf xR xB xQ (fun _ => 0) xt xv) ∧
        (∀ {ylc yvd yel yst yat ypc ydp ytp ymN ymL ymD ymT : Int32} {ybf yt yv : Nat → Int32} (post : Int32 → SY → Prop) (J : Int32 → Int32 → Int32 → Int32 → Int32 → Int32 → Int32 → Int32 → Int32 → Int32 → Int32 → Int32 → Int32 → Int32 → Int32 → Int32 → Int32 → Int32 → (Nat → Int32) → (Nat → Int32) → (Nat → Int32) → (Nat → Int32) → (Nat → Int32) → (Nat → Int32) → (Nat → Int32) → (Nat → Int32) → Prop), (r = 1 → J (x1 + 1) (nI nc) top' (nI bc) ylc yvd yel yst yat ypc ydp ytp (nI kd2) (nI ke2) ymN ymL ymD ymT yT' yI' yW' xL xbt ybf yt yv) → (r ≠ 1 → post (nI r) (nI nc, top', nI bc, ylc, nI r, nI el, yst, yat, ypc, ydp, ytp, nI kd2, nI ke2, ymN, ymL, ymD, ymT, yT', yI', yW', xL, xbt, ybf, yt, yv)) → wY_check_104 post J x1 (nI e) (d + 1 + 1) 0 (nI i) (nI nc) yt0 (nI bc) ylc yvd yel yst yat ypc ydp ytp (nI kd) (nI ke) ymN ymL ymD ymT yT yI yW xL xbt ybf yt yv) := by
  intro d
  induction d with
  | zero =>
    intro i kd ke q yt0 xP xR xB xQ yT yI yW hd hi A S
    refine ⟨3, e, kd, ke, q, yt0, xP, xR, xB, xQ, yT, yI, yW, Or.inr (by omega), by omega, A, S, fun post h1 h2 => ?_, fun post J h1 h2 => ?_⟩
    · rw [wX_checkBlock_13]
      exact br_t (nI_le (by omega) (by omega)) (h2 (by omega))
    · rw [wY_check_104]
      refine br_t (nI_le (by omega) (by omega)) ?_
      unfold wY_check_191
      refine br_t rfl ?_
      exact h2 (by omega)
  | succ d ih =>
    intro i kd ke q yt0 xP xR xB xQ yT yI yW hd hi A S
    have hie : i < e := by omega
    have L := pl i (by omega)
    obtain ⟨r, kd2, q', top', xP', xR', xB', xQ', yT', yI', yW', R, A', S', GX, GY⟩ := ta_line (q := q) (yt0 := yt0) (xB := xB) (xQ := xQ) (yI := yI) A K3 S b8 pt (by omega) L
    have xw : ∀ {xmN xmL xmD xmT xlc xvd xst xat xpc xdp xtp : Int32} {xbf xt xv : Nat → Int32} (post : Int32 → SX → Prop), (r = 1 → ((xL (4 * i) < 12 → wX_checkBlock_13 post (nI e) (d + 1) (nI (i + 1)) xmN xmL xmD xmT (nI nc) xlc (nI bc) xvd (-1) (nI kd2) (nI ke) q' xst xat xpc xdp xtp xK xP' xL xbt xbf xR' xB' xQ' (fun _ => 0) xt xv) ∧ (¬ xL (4 * i) < 12 → post 1 (xmN, xmL, xmD, xmT, nI nc, xlc, nI bc, xvd, -1, nI kd2, nI ke, q', xst, xat, xpc, xdp, xtp, xK, xP', xL, xbt, xbf, xR', xB', xQ', fun _ => 0, xt, xv)))) → (r ≠ 1 → post (nI r) (xmN, xmL, xmD, xmT, nI nc, xlc, nI bc, xvd, nI i, nI kd2, nI ke, q', xst, xat, xpc, xdp, xtp, xK, xP', xL, xbt, xbf, xR', xB', xQ', fun _ => 0, xt, xv)) →
        wX_checkBlock_13 post (nI e) (d + 1 + 1) (nI i) xmN xmL xmD xmT (nI nc) xlc (nI bc) xvd (-1) (nI kd) (nI ke) q xst xat xpc xdp xtp xK xP xL xbt xbf xR xB xQ (fun _ => 0) xt xv := by
      intro xmN xmL xmD xmT xlc xvd xst xat xpc xdp xtp xbf xt xv post h1 h2
      rw [wX_checkBlock_13]
      refine br_f (nI_ge hie (by omega)) (nm_r (ta_4 i) ?_)
      rw [ta_p1, ta_p2, ta_p3, nI_clamp (by omega), nI_clamp (by omega), nI_clamp (by omega), nI_clamp (by omega)]
      refine ⟨ta_vi (by omega), ta_vi (by omega), ta_vi (by omega), ta_vi (by omega), GX _ ?_⟩
      refine pk_eq r 1 (fun z => ⟨ta_vi (by omega), br_c (fun w => nm_r (nI_1 i) ((h1 z).1 w)) (fun w => (h1 z).2 w)⟩) (fun z => h2 z)
    have yw : ∀ {ylc yvd yel yst yat ypc ydp ytp ymN ymL ymD ymT : Int32} {ybf yt yv : Nat → Int32} (post : Int32 → SY → Prop) (J : Int32 → Int32 → Int32 → Int32 → Int32 → Int32 → Int32 → Int32 → Int32 → Int32 → Int32 → Int32 → Int32 → Int32 → Int32 → Int32 → Int32 → Int32 → (Nat → Int32) → (Nat → Int32) → (Nat → Int32) → (Nat → Int32) → (Nat → Int32) → (Nat → Int32) → (Nat → Int32) → (Nat → Int32) → Prop), (r = 1 → (((xL (4 * i) = 12 ∨ xL (4 * i) = 13 ∨ xL (4 * i) = 14) → J (x1 + 1) (nI nc) top' (nI bc) ylc yvd yel yst yat ypc ydp ytp (nI kd2) (nI ke) ymN ymL ymD ymT yT' yI' yW' xL xbt ybf yt yv) ∧ (¬ (xL (4 * i) = 12 ∨ xL (4 * i) = 13 ∨ xL (4 * i) = 14) → wY_check_104 post J x1 (nI e) (d + 1 + 1) 0 (nI (i + 1)) (nI nc) top' (nI bc) ylc yvd yel yst yat ypc ydp ytp (nI kd2) (nI ke) ymN ymL ymD ymT yT' yI' yW' xL xbt ybf yt yv))) → (r ≠ 1 → post (nI r) (nI nc, top', nI bc, ylc, nI r, nI i, yst, yat, ypc, ydp, ytp, nI kd2, nI ke, ymN, ymL, ymD, ymT, yT', yI', yW', xL, xbt, ybf, yt, yv)) →
        wY_check_104 post J x1 (nI e) (d + 1 + 1 + 1) 0 (nI i) (nI nc) yt0 (nI bc) ylc yvd yel yst yat ypc ydp ytp (nI kd) (nI ke) ymN ymL ymD ymT yT yI yW xL xbt ybf yt yv := by
      intro ylc yvd yel yst yat ypc ydp ytp ymN ymL ymD ymT ybf yt yv post J h1 h2
      have fin : (r = 1 → J (x1 + 1) (nI nc) top' (nI bc) ylc yvd yel yst yat ypc ydp ytp (nI kd2) (nI ke) ymN ymL ymD ymT yT' yI' yW' xL xbt ybf yt yv → wY_check_104 post J x1 (nI e) (d + 1 + 1) 1 (nI (i + 1)) (nI nc) top' (nI bc) ylc yvd yel yst yat ypc ydp ytp (nI kd2) (nI ke) ymN ymL ymD ymT yT' yI' yW' xL xbt ybf yt yv) := by
        intro _ hJ
        have e191 : wY_check_191 post J x1 (nI e) 1 (nI nc) top' (nI bc) ylc yvd yel yst yat ypc ydp ytp (nI kd2) (nI ke) ymN ymL ymD ymT yT' yI' yW' xL xbt ybf yt yv := by
          unfold wY_check_191
          exact br_f (by decide) (nm_e hJ)
        rw [wY_check_104]
        exact br_c (fun _ => e191) (fun _ => br_f (by decide) e191)
      rw [wY_check_104]
      refine br_f (nI_ge hie (by omega)) (br_t rfl (GY _ ?_))
      refine pk_eq r 1 (fun z => ?_) (fun z => h2 z)
      rw [ta_4, nI_clamp (by omega), nI_1]
      refine ⟨ta_vi (by omega), br_c (fun w => nm_e (fin z ((h1 z).1 (Or.inl w)))) (fun w12 => ⟨ta_vi (by omega), br_c (fun w => nm_e (fin z ((h1 z).1 (Or.inr (Or.inl w))))) (fun w13 => ⟨ta_vi (by omega), br_c (fun w => nm_e (fin z ((h1 z).1 (Or.inr (Or.inr w))))) (fun w14 => nm_e ((h1 z).2 ?_))⟩)⟩)⟩
      rintro (w | w | w)
      · exact w12 w
      · exact w13 w
      · exact w14 w
    rcases R with r1 | r1
    · subst r1
      obtain ⟨o, L0, o14⟩ : ∃ o, xL (4 * i) = nI o ∧ o ≤ 14 := by
        obtain ⟨o, a, c, L0, o14, _⟩ := L
        exact ⟨o, L0, o14⟩
      rcases Nat.lt_or_ge o 12 with z | z
      · obtain ⟨r2, el2, kd3, ke3, q3, top3, xP3, xR3, xB3, xQ3, yT3, yI3, yW3, R3, E3, A3, S3, GX3, GY3⟩ := ih (i + 1) kd2 ke q' top' xP' xR' xB' xQ' yT' yI' yW' (by omega) (by omega) A' S'
        have hlt : xL (4 * i) < 12 := by rw [L0]; exact nI_lt (b := 12) z (by decide)
        have hne : ¬ (xL (4 * i) = 12 ∨ xL (4 * i) = 13 ∨ xL (4 * i) = 14) := by
          rw [L0]
          rintro (w | w | w)
          · exact absurd ((nI_eq (by omega) (by omega)).mp (w.trans ta_l12)) (by omega)
          · exact absurd ((nI_eq (by omega) (by omega)).mp (w.trans ta_l13)) (by omega)
          · exact absurd ((nI_eq (by omega) (by omega)).mp (w.trans ta_l14)) (by omega)
        exact ⟨r2, el2, kd3, ke3, q3, top3, xP3, xR3, xB3, xQ3, yT3, yI3, yW3, R3, E3, A3, S3, fun post h1 h2 => xw post (fun _ => ⟨fun _ => GX3 post h1 h2, fun w => absurd hlt w⟩) (fun w => absurd rfl w), fun post J h1 h2 => yw post J (fun _ => ⟨fun w => absurd w hne, fun _ => GY3 post J h1 h2⟩) (fun w => absurd rfl w)⟩
      · have hlt : ¬ xL (4 * i) < 12 := by rw [L0]; exact nI_nlt (b := 12) z (by omega)
        have hne : xL (4 * i) = 12 ∨ xL (4 * i) = 13 ∨ xL (4 * i) = 14 := by
          rw [L0]
          have : o = 12 ∨ o = 13 ∨ o = 14 := by omega
          rcases this with w | w | w
          · exact Or.inl (congrArg nI w)
          · exact Or.inr (Or.inl (congrArg nI w))
          · exact Or.inr (Or.inr (congrArg nI w))
        exact ⟨1, i, kd2, ke, q', top', xP', xR', xB', xQ', yT', yI', yW', Or.inl rfl, by omega, A', S', fun post h1 h2 => xw post (fun _ => ⟨fun w => absurd w hlt, fun _ => h1 rfl⟩) (fun w => absurd rfl w), fun post J h1 h2 => yw post J (fun _ => ⟨fun _ => h1 rfl, fun w => absurd hne w⟩) (fun w => absurd rfl w)⟩
    · have rn : r ≠ 1 := by omega
      exact ⟨r, i, kd2, ke, q', top', xP', xR', xB', xQ', yT', yI', yW', Or.inr (by omega), by omega, A', S', fun post h1 h2 => xw post (fun w => absurd w rn) (fun _ => h2 rn), fun post J h1 h2 => yw post J (fun w => absurd w rn) (fun _ => h2 rn)⟩
theorem ta_prog (K3 : ∀ d, d < 8 → K (24 + d) = 3) (b8 : bc ≤ 8) (l40 : lc ≤ 40) (pt : ∀ l, l < bc → ∃ t, xbt l = nI t ∧ t < nc ∧ K t = 5) (pf : ∀ l, l < bc → ∃ f, xbf l = nI f ∧ f ≤ lc) (pl : ∀ i, i < lc → ta_LN K nc xL i) :
    ∀ (f l kd ke : Nat) (q yt0 : Int32) (xP xR xB xQ yT yI yW : Nat → Int32), l + f = bc → ta_AR K N D E nc mN xK xP yT → ta_KS K nc kd ke xP xR yW →
      ∃ (r el kd2 ke2 : Nat) (q' top' : Int32) (xP' xR' xB' xQ' yT' yI' yW' : Nat → Int32), (r = 1 ∨ (2 ≤ r ∧ r ≤ 11)) ∧ el ≤ 40 ∧ ta_AR K N D E nc mN xK xP' yT' ∧ ta_KS K nc kd2 ke2 xP' xR' yW' ∧
        (∀ {xmN xmL xmD xmT xvd xst xat xpc xdp xtp : Int32} {xt xv : Nat → Int32} (post : Int32 → SX → Prop), (r = 1 → post (nI 1) (xmN, xmL, xmD, xmT, nI nc, nI lc, nI bc, xvd, -1, nI kd2, nI ke2, q', xst, xat, xpc, xdp, xtp, xK, xP', xL, xbt, xbf, xR', xB', xQ', fun _ => 0, xt, xv)) → (r ≠ 1 → post (nI r) (xmN, xmL, xmD, xmT, nI nc, nI lc, nI bc, xvd, nI el, nI kd2, nI ke2, q', xst, xat, xpc, xdp, xtp, xK, xP', xL, xbt, xbf, xR', xB', xQ', fun _ => 0, xt, xv)) → wX_checkProgram_29 post (f + 1 + 1) (nI 1) (nI l) xmN xmL xmD xmT (nI nc) (nI lc) (nI bc) xvd (-1) (nI kd) (nI ke) q xst xat xpc xdp xtp xK xP xL xbt xbf xR xB xQ (fun _ => 0) xt xv) ∧
        (∀ {yvd yel yst yat ypc ydp ytp ymN ymL ymD ymT : Int32} {yt yv : Nat → Int32} (post : Int32 → SY → Prop), (r = 1 → post (nI 1) (nI nc, top', nI bc, nI lc, nI 1, -1, yst, yat, ypc, ydp, ytp, nI kd2, nI ke2, ymN, ymL, ymD, ymT, yT', yI', yW', xL, xbt, xbf, yt, yv)) → (r ≠ 1 → post (nI r) (nI nc, top', nI bc, nI lc, nI r, nI el, yst, yat, ypc, ydp, ytp, nI kd2, nI ke2, ymN, ymL, ymD, ymT, yT', yI', yW', xL, xbt, xbf, yt, yv)) → wY_check_70 post (f + 1) (nI l) (nI nc) yt0 (nI bc) (nI lc) yvd yel yst yat ypc ydp ytp (nI kd) (nI ke) ymN ymL ymD ymT yT yI yW xL xbt xbf yt yv) := by
  intro f
  induction f with
  | zero =>
    intro l kd ke q yt0 xP xR xB xQ yT yI yW hl A S
    refine ⟨1, 0, kd, ke, q, yt0, xP, xR, xB, xQ, yT, yI, yW, Or.inl rfl, by omega, A, S, fun post h1 h2 => ?_, fun post h1 h2 => ?_⟩
    · rw [wX_checkProgram_29]
      exact br_t (nI_le (by omega) (by omega)) (h1 rfl)
    · rw [wY_check_70]
      refine br_t (nI_le (by omega) (by omega)) ?_
      exact h1 rfl
  | succ f ih =>
    intro l kd ke q yt0 xP xR xB xQ yT yI yW hl A S
    have hlb : l < bc := by omega
    obtain ⟨t, et, tn, k5⟩ := pt l hlb
    obtain ⟨fi, ef, lf⟩ := pf l hlb
    obtain ⟨e, el, GXe, GYe⟩ := ta_bend (at' := l) b8 l40 (by omega) pf
    obtain ⟨kd1, ke1, xP1, xR1, yW1, A1, S1, GX1, GY1⟩ := ta_load A tn k5 xR yW
    obtain ⟨r, el2, kd2, ke2, q2, top2, xP2, xR2, xB2, xQ2, yT2, yI2, yW2, R2, E2, A2, S2, GX2, GY2⟩ := ta_blk (x1 := nI l) K3 b8 l40 pt pl el (e - fi) fi kd1 ke1 q yt0 xP1 xR1 xB xQ yT yI yW1 rfl (by omega) A1 S1
    have xw : ∀ {xmN xmL xmD xmT xvd xst xat xpc xdp xtp : Int32} {xt xv : Nat → Int32} (post : Int32 → SX → Prop), (r = 1 → wX_checkProgram_29 post (f + 1 + 1) (nI 1) (nI (l + 1)) xmN xmL xmD xmT (nI nc) (nI lc) (nI bc) xvd (-1) (nI kd2) (nI ke2) q2 xst xat xpc xdp xtp xK xP2 xL xbt xbf xR2 xB2 xQ2 (fun _ => 0) xt xv) → (r ≠ 1 → post (nI r) (xmN, xmL, xmD, xmT, nI nc, nI lc, nI bc, xvd, nI el2, nI kd2, nI ke2, q2, xst, xat, xpc, xdp, xtp, xK, xP2, xL, xbt, xbf, xR2, xB2, xQ2, fun _ => 0, xt, xv)) →
        wX_checkProgram_29 post (f + 1 + 1 + 1) (nI 1) (nI l) xmN xmL xmD xmT (nI nc) (nI lc) (nI bc) xvd (-1) (nI kd) (nI ke) q xst xat xpc xdp xtp xK xP xL xbt xbf xR xB xQ (fun _ => 0) xt xv := by
      intro xmN xmL xmD xmT xvd xst xat xpc xdp xtp xt xv post h1 h2
      rw [wX_checkProgram_29]
      refine br_f (nI_ge hlb (by omega)) (br_t rfl ?_)
      rw [nI_clamp (n := l) (by omega), et]
      refine ⟨ta_vi (by omega), GX1 _ ?_⟩
      show wpX_checkBlock _ _ _
      unfold wpX_checkBlock
      refine GXe _ ⟨ta_vi (by omega), nm_r (e' := nI fi) (by rw [nI_clamp (by omega), ef]) ⟨_, GX2 _ (fun z => ?_) (fun z => ?_)⟩⟩
      · exact nm_r (nI_1 l) (h1 z)
      · refine nm_r (nI_1 l) ?_
        rw [wX_checkProgram_29]
        exact br_c (fun _ => h2 z) (fun _ => br_f (fun w => z ((nI_eq (by omega) (by omega)).mp (w.trans ta_l1))) (h2 z))
    have yw : ∀ {yvd yel yst yat ypc ydp ytp ymN ymL ymD ymT : Int32} {yt yv : Nat → Int32} (post : Int32 → SY → Prop), (r = 1 → wY_check_70 post (f + 1) (nI (l + 1)) (nI nc) top2 (nI bc) (nI lc) yvd yel yst yat ypc ydp ytp (nI kd2) (nI ke2) ymN ymL ymD ymT yT2 yI2 yW2 xL xbt xbf yt yv) → (r ≠ 1 → post (nI r) (nI nc, top2, nI bc, nI lc, nI r, nI el2, yst, yat, ypc, ydp, ytp, nI kd2, nI ke2, ymN, ymL, ymD, ymT, yT2, yI2, yW2, xL, xbt, xbf, yt, yv)) →
        wY_check_70 post (f + 1 + 1) (nI l) (nI nc) yt0 (nI bc) (nI lc) yvd yel yst yat ypc ydp ytp (nI kd) (nI ke) ymN ymL ymD ymT yT yI yW xL xbt xbf yt yv := by
      intro yvd yel yst yat ypc ydp ytp ymN ymL ymD ymT yt yv post h1 h2
      rw [wY_check_70]
      refine br_f (nI_ge hlb (by omega)) ?_
      rw [nI_clamp (n := l) (by omega), et]
      refine ⟨ta_vi (by omega), GY1 _ ?_⟩
      refine GYe _ ⟨ta_vi (by omega), nm_r (e' := nI fi) (by first | exact ef | rw [nI_clamp (by omega), ef]) ⟨_, GY2 _ _ (fun z => ?_) (fun z => h2 z)⟩⟩
      rw [nI_1]
      exact h1 z
    rcases R2 with r1 | r1
    · subst r1
      obtain ⟨r3, el3, kd3, ke3, q3, top3, xP3, xR3, xB3, xQ3, yT3, yI3, yW3, R3, E3, A3, S3, GX3, GY3⟩ := ih (l + 1) kd2 ke2 q2 top2 xP2 xR2 xB2 xQ2 yT2 yI2 yW2 (by omega) A2 S2
      exact ⟨r3, el3, kd3, ke3, q3, top3, xP3, xR3, xB3, xQ3, yT3, yI3, yW3, R3, E3, A3, S3, fun post h1 h2 => xw post (fun _ => GX3 post h1 h2) (fun w => absurd rfl w), fun post h1 h2 => yw post (fun _ => GY3 post h1 h2) (fun w => absurd rfl w)⟩
    · have rn : r ≠ 1 := by omega
      exact ⟨r, el2, kd2, ke2, q2, top2, xP2, xR2, xB2, xQ2, yT2, yI2, yW2, Or.inr r1, E2, A2, S2, fun post h1 h2 => xw post (fun w => absurd w rn) (fun _ => h2 rn), fun post h1 h2 => yw post (fun w => absurd w rn) (fun _ => h2 rn)⟩
end
end
section
/-! check -/
theorem ta_VDr {r el : Nat} (hr : 2 ≤ r ∧ r ≤ 11) (he : el ≤ 40) : ta_VD (nI r) (nI el) := by
  refine Or.inr ⟨nI_pos (by omega), fun z => ?_, fun z => ?_, fun z => ?_⟩
  · exact absurd ((nI_eq (by omega) (by omega)).mp (z.trans ta_l0)) (by omega)
  · exact absurd ((nI_eq (by omega) (by omega)).mp (z.trans ta_l1)) (by omega)
  · exact absurd ((nI_eq (by omega) (by omega)).mp (z.trans ta_l12)) (by omega)
theorem ta_KS0 {K : Nat → Nat} {N : Nat → Nat → Option Nat} {nc : Nat} {xP xR yW : Nat → Int32} (P : ta_PA K N nc) : ta_KS K nc 0 0 xP (ta_u3 xR 8 (-1) (-1)) (ta_u3 yW 8 (-1) (-1)) := by
  have n3 := P.1
  refine ⟨by omega, Or.inl rfl, fun r hr => ?_, fun j hj => by omega, fun d hd => by omega⟩
  obtain ⟨u0, u1, u2⟩ := ta_u3r xR 8 (-1) (-1)
  obtain ⟨v0, v1, v2⟩ := ta_u3r yW 8 (-1) (-1)
  rcases Nat.lt_or_ge r 1 with z | z
  · have : r = 0 := by omega
    subst this
    rw [u0, v0]
    exact ⟨rfl, ta_AGg ⟨8, rfl, by omega, Or.inr (Or.inr ⟨P.2.2.2.2.1, rfl⟩)⟩⟩
  · rcases Nat.lt_or_ge r 2 with z | z
    · have : r = 1 := by omega
      subst this
      rw [u1, v1]; exact ⟨rfl, ta_AGm⟩
    · have : r = 2 := by omega
      subst this
      rw [u2, v2]; exact ⟨rfl, ta_AGm⟩
theorem i_vc_check {k : Nat} {u : SX} {v : SY} (I : i_Rel k u v) (hk : k + 5 ≤ 2564) : wpX_check (fun r u' => wpY_check (fun r' v' => r' = r ∧ i_Rel (k + 5) u' v') v) u := by
  refine ta_el (P := fun u v => wpX_check (fun r u' => wpY_check (fun r' v' => r' = r ∧ i_Rel (k + 5) u' v') v) u) ?_ I
  intro K N D E mN mL mD mT nc lc bc kd ke at' pc dp tp vd el st xqd ytop xK xP xL xbt xbf xR xB xQ xt xv yT yI yW yt yv A0 Kn Vd Pr0 Ma
  have n24 := A0.1.2.1
  obtain ⟨K', hK, h5, K3⟩ : ∃ K' : Nat → Nat, (∀ i, i < nc → K' i = K i) ∧ (∀ i, K' i ≤ 5) ∧ (∀ d, d < 8 → K' (24 + d) = 3) := by
    refine ⟨fun i => if i < 24 then K i else 3, fun i hi => if_pos (by omega), fun i => ?_, fun d hd => if_neg (by omega)⟩
    dsimp only
    by_cases c : i < 24
    · rw [if_pos c]; exact A0.1.2.2.2.2.2.1 i
    · rw [if_neg c]; omega
  have A := ta_AR_K hK h5 A0
  have Pr := ta_PR_mono hK (Nat.le_refl _) Pr0
  obtain ⟨b8, l1, l2, pt, pf, pl⟩ := Pr
  have l40 : lc ≤ 40 := by omega
  by_cases hb : bc = 0
  · subst hb
    refine br_t rfl ?_
    show wpY_check _ _
    unfold wpY_check
    refine br_t rfl ?_
    exact ⟨rfl, ta_in' (bc := 0) A Kn (Or.inl ⟨by decide, Or.inr (Or.inr rfl)⟩) ⟨b8, l1, l2, pt, pf, pl⟩ Ma⟩
  · have hb' : ¬ nI bc = 0 := nI_ne0 (by omega) (by omega)
    obtain ⟨t, et, tn, k5⟩ := pt 0 (by omega)
    have S0 : ta_KS K' nc 0 0 xP (ta_u3 xR 8 (-1) (-1)) (ta_u3 yW 8 (-1) (-1)) := ta_KS0 A.1
    obtain ⟨rm, q1, top1, xB1, xQ1, yT1, yI1, R1, T1, GX1, GY1⟩ := ta_meets A K3 S0 tn k5 (z := 1) (Or.inr rfl) xqd xB xQ yI ytop
    have A1 := ta_AR_keep A T1
    unfold wpX_check
    refine br_f hb' ?_
    unfold wpX_checkProgram wpX_startKnown
    refine nm_e (nm_e (nm_e ?_))
    have ypre : ∀ post : Int32 → SY → Prop, ((rm = 0 → post 2 (nI nc, top1, nI bc, nI lc, 2, 0, st, nI at', nI pc, nI dp, nI tp, nI 0, nI 0, nI mN, nI mL, nI mD, nI mT, yT1, yI1, ta_u3 yW 8 (-1) (-1), xL, xbt, xbf, yt, yv)) ∧ (¬ rm = 0 → ∃ n70, wY_check_70 post n70 0 (nI nc) top1 (nI bc) (nI lc) vd el st (nI at') (nI pc) (nI dp) (nI tp) (nI 0) (nI 0) (nI mN) (nI mL) (nI mD) (nI mT) yT1 yI1 (ta_u3 yW 8 (-1) (-1)) xL xbt xbf yt yv)) → wpY_check post (nI nc, ytop, nI bc, nI lc, vd, el, st, nI at', nI pc, nI dp, nI tp, nI kd, nI ke, nI mN, nI mL, nI mD, nI mT, yT, yI, yW, xL, xbt, xbf, yt, yv) := by
      intro post h
      unfold wpY_check
      refine br_f hb' (nm_e (nm_e (nm_e ?_)))
      rw [et]
      refine GY1 _ ?_
      exact br_c (fun z => h.1 z) (fun z => h.2 z)
    show wpX_meets _ _ (xbt 0) 1
    rw [et]
    refine GX1 _ ?_
    refine br_c (fun z => ?_) (fun z => ?_)
    · show wpY_check _ _
      refine ypre _ (br_t z ⟨rfl, ?_⟩)
      exact ta_in' (kd := 0) (ke := 0) (vd := 2) (el := 0) A1 (ta_KS_KN S0) (ta_VDr (r := 2) (el := 0) (by omega) (by omega)) ⟨b8, l1, l2, pt, pf, pl⟩ Ma
    · obtain ⟨r, el2, kd2, ke2, q2, top2, xP2, xR2, xB2, xQ2, yT2, yI2, yW2, R2, E2, A2, S2, GX2, GY2⟩ := ta_prog K3 b8 l40 pt pf pl bc 0 0 0 q1 top1 xP (ta_u3 xR 8 (-1) (-1)) xB1 xQ1 yT1 yI1 (ta_u3 yW 8 (-1) (-1)) (by omega) A1 S0
      refine ⟨_, GX2 _ (fun w => ?_) (fun w => ?_)⟩
      · show wpY_check _ _
        refine ypre _ (br_f z ⟨_, GY2 _ (fun _ => ⟨rfl, ?_⟩) (fun w' => absurd w w')⟩)
        exact ta_in' (vd := nI 1) (el := -1) A2 (ta_KS_KN S2) (Or.inl ⟨by decide, Or.inr (Or.inl rfl)⟩) ⟨b8, l1, l2, pt, pf, pl⟩ Ma
      · show wpY_check _ _
        refine ypre _ (br_f z ⟨_, GY2 _ (fun w' => absurd w' w) (fun _ => ⟨rfl, ?_⟩)⟩)
        have hr : 2 ≤ r ∧ r ≤ 11 := by
          rcases R2 with a | a
          · exact absurd a w
          · exact a
        exact ta_in' (vd := nI r) (el := nI el2) A2 (ta_KS_KN S2) (ta_VDr hr E2) ⟨b8, l1, l2, pt, pf, pl⟩ Ma
end
