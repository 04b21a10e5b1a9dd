section
theorem pk_us {f : Nat → Int32} {k : Nat} {x : Int32} : upd f k x k = x := if_pos rfl
theorem pk_un {f : Nat → Int32} {k j : Nat} {x : Int32} (h : j ≠ k) : upd f k x j = f j := if_neg h
theorem pk_sub {a b : Nat} (h : b ≤ a) : nI a - nI b = nI (a - b) := by
  obtain ⟨c, rfl⟩ : ∃ c, a = c + b := ⟨a - b, by omega⟩
  rw [← nI_add, Int32.add_sub_cancel, Nat.add_sub_cancel]
theorem pk_m1 (n : Nat) : nI (n + 1) + (-1) = nI n := by
  rw [← nI_1, Int32.add_assoc, show (1 : Int32) + (-1) = 0 from rfl, Int32.add_zero]
theorem pk_mul (a b : Nat) : nI a * nI b = nI (a * b) := (Int32.ofNat_mul a b).symm
theorem pk_ix (x : Int32) {n : Nat} (hn : n < 2 ^ 31) : x < 0 ∨ nI n ≤ x ∨ ∃ j : Nat, j < n ∧ x = nI j := by
  by_cases h : x < 0
  · exact Or.inl h
  · obtain ⟨j, hj, rfl⟩ := nI_of h
    by_cases h2 : j < n
    · exact Or.inr (Or.inr ⟨j, h2, rfl⟩)
    · exact Or.inr (Or.inl (nI_le (by omega) hj))
theorem pk_le {x y : Int32} {A B : Prop} (a b : Nat) (f : a ≤ b → A) (g : b < a → B) (hx : x = nI a := by rfl) (hy : y = nI b := by rfl) (ha : a < 2 ^ 31 := by omega) (hb : b < 2 ^ 31 := by omega) : (x ≤ y → A) ∧ (¬ x ≤ y → B) := by
  subst hx hy
  rw [nI_leI ha hb]
  exact ⟨f, fun z => g (by omega)⟩
theorem pk_lt {x y : Int32} {A B : Prop} (a b : Nat) (f : a < b → A) (g : b ≤ a → B) (hx : x = nI a := by rfl) (hy : y = nI b := by rfl) (ha : a < 2 ^ 31 := by omega) (hb : b < 2 ^ 31 := by omega) : (x < y → A) ∧ (¬ x < y → B) := by
  subst hx hy
  rw [nI_ltI ha hb]
  exact ⟨f, fun z => g (by omega)⟩
theorem pk_eq {x y : Int32} {A B : Prop} (a b : Nat) (f : a = b → A) (g : a ≠ b → B) (hx : x = nI a := by rfl) (hy : y = nI b := by rfl) (ha : a < 2 ^ 31 := by omega) (hb : b < 2 ^ 31 := by omega) : (x = y → A) ∧ (¬ x = y → B) := by
  subst hx hy
  rw [nI_eq ha hb]
  exact ⟨f, g⟩
def bt (x : Int32) (i : Nat) : Bool := x.toBitVec.getLsbD i
theorem b_ext {x y : Int32} (h : ∀ i, i < 32 → bt x i = bt y i) : x = y := Int32.toBitVec_inj.mp (BitVec.eq_of_getLsbD_eq (fun i hi => h i hi))
theorem b_or (x y : Int32) (i : Nat) : bt (x ||| y) i = (bt x i || bt y i) := by unfold bt; rw [Int32.toBitVec_or, BitVec.getLsbD_or]
theorem b_and (x y : Int32) (i : Nat) : bt (x &&& y) i = (bt x i && bt y i) := by unfold bt; rw [Int32.toBitVec_and, BitVec.getLsbD_and]
theorem b_big {x : Int32} {i : Nat} (h : 32 ≤ i) : bt x i = false := BitVec.getLsbD_of_ge _ _ h
theorem b_0 (i : Nat) : bt 0 i = false := BitVec.getLsbD_zero
theorem nf_sh : ∀ l, l < 32 → ((1 : Int32) <<< (nI l &&& 31)).toBitVec = BitVec.twoPow 32 l := by decide +kernel
theorem nf_tp : ∀ l, l < 32 → BitVec.twoPow 32 l ≠ 0#32 := by decide +kernel
end
section
/-! numbers -/
theorem od_p0 (a : Nat) : nI a + 0 = nI a := Int32.add_zero _
theorem od_p2 (a : Nat) : nI a + 2 = nI (a + 2) := nI_add a 2
theorem od_p3 (a : Nat) : nI a + 3 = nI (a + 3) := nI_add a 3
theorem od_p4 (a : Nat) : nI a + 4 = nI (a + 4) := nI_add a 4
theorem od_p5 (a : Nat) : nI a + 5 = nI (a + 5) := nI_add a 5
theorem od_p6 (a : Nat) : nI a + 6 = nI (a + 6) := nI_add a 6
theorem od_p7 (a : Nat) : nI a + 7 = nI (a + 7) := nI_add a 7
theorem od_p8 (a : Nat) : nI a + 8 = nI (a + 8) := nI_add a 8
theorem od_m8 (a : Nat) : nI a * 8 = nI (8 * a) := by rw [Nat.mul_comm]; exact pk_mul a 8
theorem od_8m (a : Nat) : 8 * nI a = nI (8 * a) := pk_mul 8 a
theorem od_3m (a : Nat) : 3 * nI a = nI (3 * a) := pk_mul 3 a
theorem od_64m (a : Nat) : 64 * nI a = nI (64 * a) := pk_mul 64 a
theorem od_se (i d : Nat) : nI i * 8 + nI d = nI (8 * i + d) := by rw [od_m8, nI_add]
theorem od_ye (i d : Nat) : 8 * nI i + nI d = nI (8 * i + d) := by rw [od_8m, nI_add]
theorem od_yi (i d n : Nat) : 64 * nI i + 8 * nI d + nI n = nI (8 * (8 * i + d) + n) := by
  rw [od_64m, od_8m, nI_add, nI_add]
  exact congrArg nI (by omega)
theorem od_nm1 {p : Nat} (h : p < 2 ^ 31) : ¬ nI p = -1 := by
  intro e
  have h1 := nI_toInt h
  rw [e] at h1
  have h2 : (-1 : Int32).toInt = -1 := by decide
  omega
theorem od_n0 : vp_nar .boolean 0 = 0 := rfl
theorem od_n1 : vp_nar .boolean 1 = 1 := rfl
/-! stores -/
theorem od_uu (a : Nat → Int32) (i : Nat) (x y : Int32) : upd (upd a i x) i y = upd a i y := by
  funext j
  by_cases h : j = i
  · subst h; rw [pk_us, pk_us]
  · rw [pk_un h, pk_un h, pk_un h]
/-- the eight cells of a message -/
def od_w (ms : Nat → Int32) (b : Nat) (k f t o g n d x : Int32) : Nat → Int32 :=
  upd (upd (upd (upd (upd (upd (upd (upd ms b k) (b + 1) f) (b + 2) t) (b + 3) o) (b + 4) g) (b + 5) n) (b + 6) d) (b + 7) x
theorem od_wx (ms : Nat → Int32) (b : Nat) (k f t o g n d x : Int32) : upd (od_w ms b k f t o g n d 0) (b + 7) x = od_w ms b k f t o g n d x := od_uu _ _ _ _
theorem od_w_lo {ms : Nat → Int32} {b : Nat} {k f t o g n d x : Int32} {j : Nat} (h : j < b) : od_w ms b k f t o g n d x j = ms j := by
  unfold od_w
  rw [pk_un (by omega), pk_un (by omega), pk_un (by omega), pk_un (by omega), pk_un (by omega), pk_un (by omega), pk_un (by omega), pk_un (by omega)]
theorem od_w_1 {ms : Nat → Int32} {b : Nat} {k f t o g n d x : Int32} : od_w ms b k f t o g n d x (b + 1) = f := by
  unfold od_w
  rw [pk_un (by omega), pk_un (by omega), pk_un (by omega), pk_un (by omega), pk_un (by omega), pk_un (by omega), pk_us]
theorem od_w_2 {ms : Nat → Int32} {b : Nat} {k f t o g n d x : Int32} : od_w ms b k f t o g n d x (b + 2) = t := by
  unfold od_w
  rw [pk_un (by omega), pk_un (by omega), pk_un (by omega), pk_un (by omega), pk_un (by omega), pk_us]
theorem od_w_3 {ms : Nat → Int32} {b : Nat} {k f t o g n d x : Int32} : od_w ms b k f t o g n d x (b + 3) = o := by
  unfold od_w
  rw [pk_un (by omega), pk_un (by omega), pk_un (by omega), pk_un (by omega), pk_us]
theorem od_w_4 {ms : Nat → Int32} {b : Nat} {k f t o g n d x : Int32} : od_w ms b k f t o g n d x (b + 4) = g := by
  unfold od_w
  rw [pk_un (by omega), pk_un (by omega), pk_un (by omega), pk_us]
/-! bits -/
theorem od_b1 {p q : Nat} (hp : p < 32) (hq : q < 32) : bt ((1 : Int32) <<< (nI p &&& 31)) q = decide (q = p) := by
  unfold bt
  rw [nf_sh p hp, BitVec.getLsbD_twoPow]
  by_cases h : q = p
  · subst h; simp [hq]
  · have h' : ¬ p = q := fun e => h e.symm
    simp [h, h']
theorem od_bit (w : Int32) {p : Nat} (hp : p < 32) : (w &&& ((1 : Int32) <<< (nI p &&& 31))) = 0 ↔ bt w p = false := by
  constructor
  · intro h
    have h1 := b_and w ((1 : Int32) <<< (nI p &&& 31)) p
    rw [h, b_0, od_b1 hp hp, decide_eq_true rfl, Bool.and_true] at h1
    exact h1.symm
  · intro h
    refine b_ext (fun i hi => ?_)
    rw [b_and, b_0, od_b1 hp hi]
    by_cases e : i = p
    · subst e; rw [h]; rfl
    · rw [decide_eq_false e, Bool.and_false]
/-! the invariant -/
/-- sizes; no node is its own neighbour; the next hop of a valid entry is a node; the precursors' bits; the nodes named in the pool's messages -/
def od_J (N R z : Nat) (up st nx pc pre ms : Nat → Int32) : Prop :=
  (2 ≤ N ∧ N ≤ 8 ∧ R ≤ 32 ∧ z ≤ R) ∧
  (∀ a, a < N → up (8 * a + a) = 0) ∧
  (∀ i d, i < N → d < N → st (8 * i + d) = 2 → ∃ n, n < N ∧ nx (8 * i + d) = nI n) ∧
  (∀ e p, e < 64 → p < 32 → bt (pc e) p = (decide (p < N) && !decide (pre (8 * e + p) = 0))) ∧
  (∀ k f, k < z → 1 ≤ f → f ≤ 4 → ∃ n, n < N ∧ ms (8 * k + f) = nI n)
/-- the boxes -/
def od_Bx (ic io it box : Nat → Int32) : Prop := ∀ i, i < 8 → box (3 * i) = ic i ∧ box (3 * i + 1) = io i ∧ box (3 * i + 2) = it i
section od2
variable {N R z : Nat} {up st nx pc pre ms : Nat → Int32}
theorem od_Jz (J : od_J N R z up st nx pc pre ms) : 2 ≤ N ∧ N ≤ 8 ∧ R ≤ 32 ∧ z ≤ R := J.1
theorem od_Jup (J : od_J N R z up st nx pc pre ms) {a : Nat} (h : a < N) : up (8 * a + a) = 0 := J.2.1 a h
theorem od_Jnx (J : od_J N R z up st nx pc pre ms) {i d : Nat} (hi : i < N) (hd : d < N) (h : st (8 * i + d) = 2) : ∃ n, n < N ∧ nx (8 * i + d) = nI n := J.2.2.1 i d hi hd h
theorem od_Jpc (J : od_J N R z up st nx pc pre ms) {e p : Nat} (he : e < 64) (hp : p < N) : (pc e &&& ((1 : Int32) <<< (nI p &&& 31))) = 0 ↔ pre (8 * e + p) = 0 := by
  have hz := od_Jz J
  rw [od_bit _ (by omega), J.2.2.2.1 e p he (by omega), decide_eq_true hp, Bool.true_and]
  by_cases h : pre (8 * e + p) = 0
  · rw [decide_eq_true h]; exact ⟨fun _ => h, fun _ => rfl⟩
  · rw [decide_eq_false h]; exact ⟨fun q => absurd q (by decide), fun q => absurd q h⟩
theorem od_Jms (J : od_J N R z up st nx pc pre ms) {k f : Nat} (hk : k < z) (h1 : 1 ≤ f) (h4 : f ≤ 4) : ∃ n, n < N ∧ ms (8 * k + f) = nI n := J.2.2.2.2 k f hk h1 h4
/-- a message is posted -/
theorem od_Jp (J : od_J N R z up st nx pc pre ms) (hz : z < R) {f t o g : Nat} (hf : f < N) (ht : t < N) (ho : o < N) (hg : g < N) (k n d x : Int32) : od_J N R (z + 1) up st nx pc pre (od_w ms (8 * z) k (nI f) (nI t) (nI o) (nI g) n d x) := by
  have hz' := od_Jz J
  refine ⟨by omega, J.2.1, J.2.2.1, J.2.2.2.1, fun k' f' hk h1 h4 => ?_⟩
  by_cases h : k' < z
  · rw [od_w_lo (by omega)]; exact od_Jms J h h1 h4
  · have e : k' = z := by omega
    subst e
    rcases (by omega : f' = 1 ∨ f' = 2 ∨ f' = 3 ∨ f' = 4) with rfl | rfl | rfl | rfl
    · exact ⟨f, hf, od_w_1⟩
    · exact ⟨t, ht, od_w_2⟩
    · exact ⟨o, ho, od_w_3⟩
    · exact ⟨g, hg, od_w_4⟩
/-- an entry is lost -/
theorem od_Jst (J : od_J N R z up st nx pc pre ms) (e : Nat) : od_J N R z up (upd st e 1) nx pc pre ms := by
  refine ⟨J.1, J.2.1, fun i d hi hd h => ?_, J.2.2.2⟩
  by_cases c : 8 * i + d = e
  · rw [c, pk_us] at h; exact absurd h (by decide)
  · rw [pk_un c] at h; exact od_Jnx J hi hd h
/-- an entry is learnt -/
theorem od_Jln (J : od_J N R z up st nx pc pre ms) (e : Nat) {v : Nat} (hv : v < N) : od_J N R z up (upd st e 2) (upd nx e (nI v)) pc pre ms := by
  refine ⟨J.1, J.2.1, fun i d hi hd h => ?_, J.2.2.2⟩
  by_cases c : 8 * i + d = e
  · exact ⟨v, hv, by rw [c, pk_us]⟩
  · rw [pk_un c] at h ⊢; exact od_Jnx J hi hd h
/-- eight cells from 8 * e on, of which q are cleared -/
def od_cl (pre : Nat → Int32) (e q : Nat) : Nat → Int32 := fun j => if 8 * e ≤ j ∧ j < 8 * e + q then 0 else pre j
theorem od_cl0 (pre : Nat → Int32) (e : Nat) : od_cl pre e 0 = pre := by
  funext j; exact if_neg (by omega)
theorem od_cl1 (pre : Nat → Int32) (e q : Nat) : upd (od_cl pre e q) (8 * e + q) 0 = od_cl pre e (q + 1) := by
  funext j
  by_cases h : j = 8 * e + q
  · rw [h, pk_us]; exact (if_pos (by omega)).symm
  · rw [pk_un h]
    by_cases c : 8 * e ≤ j ∧ j < 8 * e + q
    · exact (if_pos c).trans (if_pos (by omega)).symm
    · exact (if_neg c).trans (if_neg (by omega)).symm
/-- the precursors of an entry are cleared -/
theorem od_Jcl (J : od_J N R z up st nx pc pre ms) (e : Nat) : od_J N R z up st nx (upd pc e 0) (od_cl pre e 8) ms := by
  have hz := od_Jz J
  refine ⟨J.1, J.2.1, J.2.2.1, fun e' p he hp => ?_, J.2.2.2.2⟩
  by_cases c : e' = e
  · subst c
    rw [pk_us, b_0]
    by_cases hN : p < N
    · have h0 : od_cl pre e' 8 (8 * e' + p) = 0 := if_pos (by omega)
      rw [h0, decide_eq_true (rfl : (0 : Int32) = 0)]; simp
    · rw [decide_eq_false hN, Bool.false_and]
  · rw [pk_un c, J.2.2.2.1 e' p he hp]
    by_cases hN : p < N
    · have h0 : od_cl pre e 8 (8 * e' + p) = pre (8 * e' + p) := if_neg (by omega)
      rw [h0]
    · rw [decide_eq_false hN, Bool.false_and, Bool.false_and]
/-- a precursor is noted -/
theorem od_Jor (J : od_J N R z up st nx pc pre ms) {e n : Nat} (hn : n < N) : od_J N R z up st nx (upd pc e (pc e ||| ((1 : Int32) <<< (nI n &&& 31)))) (upd pre (8 * e + n) 1) ms := by
  have hz := od_Jz J
  refine ⟨J.1, J.2.1, J.2.2.1, fun e' p he hp => ?_, J.2.2.2.2⟩
  by_cases c : e' = e
  · subst c
    rw [pk_us, b_or, J.2.2.2.1 e' p he hp, od_b1 (by omega) hp]
    by_cases h : p = n
    · subst h
      rw [pk_us, decide_eq_true hn, decide_eq_true rfl, decide_eq_false (by decide : ¬ (1 : Int32) = 0)]; simp
    · rw [pk_un (by omega), decide_eq_false h, Bool.or_false]
  · rw [pk_un c, J.2.2.2.1 e' p he hp]
    by_cases hN : p < N
    · rw [pk_un (by omega)]
    · rw [decide_eq_false hN, Bool.false_and, Bool.false_and]
/-- a message is taken out -/
def od_sh (ms : Nat → Int32) (a c : Nat) : Nat → Int32 := fun j => if a ≤ j ∧ j < c then ms (j + 8) else ms j
theorem od_sh0 (ms : Nat → Int32) (a : Nat) : od_sh ms a a = ms := by
  funext j; exact if_neg (by omega)
theorem od_sh8 (ms : Nat → Int32) (a c : Nat) : od_sh ms a c (c + 8) = ms (c + 8) := if_neg (by omega)
theorem od_sh1 (ms : Nat → Int32) {a c : Nat} (h : a ≤ c) : upd (od_sh ms a c) c (ms (c + 8)) = od_sh ms a (c + 1) := by
  funext j
  by_cases e : j = c
  · rw [e, pk_us]; exact (if_pos (by omega)).symm
  · rw [pk_un e]
    by_cases b : a ≤ j ∧ j < c
    · exact (if_pos b).trans (if_pos (by omega)).symm
    · exact (if_neg b).trans (if_neg (by omega)).symm
theorem od_Jsh (J : od_J N R z up st nx pc pre ms) {k : Nat} (hk : k < z) : od_J N R (z - 1) up st nx pc pre (od_sh ms (8 * k) (8 * (z - 1))) := by
  have hz := od_Jz J
  refine ⟨by omega, J.2.1, J.2.2.1, J.2.2.2.1, fun k' f hk' h1 h4 => ?_⟩
  by_cases c : k ≤ k'
  · have e : od_sh ms (8 * k) (8 * (z - 1)) (8 * k' + f) = ms (8 * (k' + 1) + f) := (if_pos (by omega)).trans (congrArg ms (by omega))
    rw [e]; exact od_Jms J (by omega) h1 h4
  · have e : od_sh ms (8 * k) (8 * (z - 1)) (8 * k' + f) = ms (8 * k' + f) := if_neg (by omega)
    rw [e]; exact od_Jms J (by omega) h1 h4
/-- a message is copied -/
def od_cp (ms : Nat → Int32) (k z f : Nat) : Nat → Int32 := fun j => if 8 * z ≤ j ∧ j < 8 * z + f then ms (j - 8 * z + 8 * k) else ms j
theorem od_cp0 (ms : Nat → Int32) (k z : Nat) : od_cp ms k z 0 = ms := by
  funext j; exact if_neg (by omega)
theorem od_cpr (ms : Nat → Int32) {k z f f' : Nat} (h : k < z) (hf : f' < 8) : od_cp ms k z f (8 * k + f') = ms (8 * k + f') := if_neg (by omega)
theorem od_cp1 (ms : Nat → Int32) (k z f : Nat) : upd (od_cp ms k z f) (8 * z + f) (ms (8 * k + f)) = od_cp ms k z (f + 1) := by
  funext j
  by_cases e : j = 8 * z + f
  · rw [e, pk_us]; exact ((if_pos (by omega)).trans (congrArg ms (by omega))).symm
  · rw [pk_un e]
    by_cases b : 8 * z ≤ j ∧ j < 8 * z + f
    · exact (if_pos b).trans (if_pos (by omega)).symm
    · exact (if_neg b).trans (if_neg (by omega)).symm
theorem od_Jcp (J : od_J N R z up st nx pc pre ms) (hz : z < R) {k : Nat} (hk : k < z) : od_J N R (z + 1) up st nx pc pre (od_cp ms k z 8) := by
  have hz := od_Jz J
  refine ⟨by omega, J.2.1, J.2.2.1, J.2.2.2.1, fun k' f hk' h1 h4 => ?_⟩
  by_cases c : k' < z
  · have e : od_cp ms k z 8 (8 * k' + f) = ms (8 * k' + f) := if_neg (by omega)
    rw [e]; exact od_Jms J c h1 h4
  · have e : od_cp ms k z 8 (8 * k' + f) = ms (8 * k + f) := (if_pos (by omega)).trans (congrArg ms (by omega))
    rw [e]; exact od_Jms J hk h1 h4
end od2
end
section
/-! primitives: each with a general post -/
section od3
variable {N R z : Nat} {mx k1 k2 k3 k4 k5 k6 k7 k8 : Int32} {up seen st sq hp nx pc own ic io it ms pre box : Nat → Int32}
theorem od_xs {P : Int32 → Prop} {u : SX} {i d : Nat} (h : P (nI (8 * i + d))) : wpX_slot P u (nI i) (nI d) := by
  rw [← od_se] at h; exact h
/-! good, pairs -/
theorem od_xg {P : Int32 → Prop} {a : Nat} (ha : a < N) (hN : N ≤ 8) (h : P 1) : wpX_good P (nI N, nI R, mx, nI z, k1, k2, k3, k4, k5, k6, k7, k8, up, seen, st, sq, hp, nx, pc, own, ic, io, it, ms) (nI a) :=
  br_f (nI_pos (by omega)) (br_f (nI_ge ha (by omega)) h)
theorem od_xgb {P : Int32 → Prop} {a : Int32} (ha : a < 0 ∨ nI N ≤ a) (h : P 0) : wpX_good P (nI N, nI R, mx, nI z, k1, k2, k3, k4, k5, k6, k7, k8, up, seen, st, sq, hp, nx, pc, own, ic, io, it, ms) a := by
  by_cases c : a < 0
  · exact br_t c h
  · exact br_f c (br_t (ha.resolve_left c) h)
theorem od_yg {P : Int32 → Prop} {a : Nat} (ha : a < N) (hN : N ≤ 8) (h : P 1) : wpY_good P (nI N, nI R, mx, nI z, up, own, seen, st, sq, hp, nx, pre, box, ms) (nI a) :=
  br_f (nI_pos (by omega)) (br_f (nI_ge ha (by omega)) h)
theorem od_ygb {P : Int32 → Prop} {a : Int32} (ha : a < 0 ∨ nI N ≤ a) (h : P 0) : wpY_good P (nI N, nI R, mx, nI z, up, own, seen, st, sq, hp, nx, pre, box, ms) a := by
  by_cases c : a < 0
  · exact br_t c h
  · exact br_f c (br_t (ha.resolve_left c) h)
/-- a bad pair -/
def od_bp (N : Nat) (a b : Int32) : Prop := (a < 0 ∨ nI N ≤ a) ∨ (b < 0 ∨ nI N ≤ b) ∨ a = b
theorem od_pair (hN : N ≤ 8) (a b : Int32) : od_bp N a b ∨ ∃ i j, i < N ∧ j < N ∧ i ≠ j ∧ a = nI i ∧ b = nI j := by
  rcases pk_ix a (n := N) (by omega) with h | h | ⟨i, hi, rfl⟩
  · exact Or.inl (Or.inl (Or.inl h))
  · exact Or.inl (Or.inl (Or.inr h))
  · rcases pk_ix b (n := N) (by omega) with h | h | ⟨j, hj, rfl⟩
    · exact Or.inl (Or.inr (Or.inl (Or.inl h)))
    · exact Or.inl (Or.inr (Or.inl (Or.inr h)))
    · by_cases e : i = j
      · exact Or.inl (Or.inr (Or.inr (congrArg nI e)))
      · exact Or.inr ⟨i, j, hi, hj, e, rfl, rfl⟩
theorem od_one (hN : N ≤ 8) (a : Int32) : (a < 0 ∨ nI N ≤ a) ∨ ∃ i, i < N ∧ a = nI i := by
  rcases pk_ix a (n := N) (by omega) with h | h | ⟨i, hi, rfl⟩
  · exact Or.inl (Or.inl h)
  · exact Or.inl (Or.inr h)
  · exact Or.inr ⟨i, hi, rfl⟩
theorem od_nn {i j : Nat} (hi : i < 8) (hj : j < 8) (h : i ≠ j) : ¬ nI i = nI j := fun e => h ((nI_eq (by omega) (by omega)).mp e)
theorem od_xgp {P : Int32 → Prop} {i j : Nat} (hN : N ≤ 8) (hi : i < N) (hj : j < N) (hn : i ≠ j) (h : P 1) : wpX_goodPair P (nI N, nI R, mx, nI z, k1, k2, k3, k4, k5, k6, k7, k8, up, seen, st, sq, hp, nx, pc, own, ic, io, it, ms) (nI i) (nI j) := by
  unfold wpX_goodPair
  refine od_xg hi hN (br_f (by decide) ?_)
  refine od_xg hj hN (br_f (by decide) ?_)
  exact br_f (od_nn (by omega) (by omega) hn) h
theorem od_xgpb {P : Int32 → Prop} {a b : Int32} (hN : N ≤ 8) (hb : od_bp N a b) (h : P 0) : wpX_goodPair P (nI N, nI R, mx, nI z, k1, k2, k3, k4, k5, k6, k7, k8, up, seen, st, sq, hp, nx, pc, own, ic, io, it, ms) a b := by
  unfold wpX_goodPair
  rcases od_one hN a with ha | ⟨i, hi, rfl⟩
  · exact od_xgb ha (br_t rfl h)
  · refine od_xg hi hN (br_f (by decide) ?_)
    rcases od_one hN b with hb' | ⟨j, hj, rfl⟩
    · exact od_xgb hb' (br_t rfl h)
    · refine od_xg hj hN (br_f (by decide) ?_)
      refine br_t ?_ h
      rcases hb with h1 | h1 | h1
      · exact absurd h1 (fun e => e.elim (nI_pos (by omega)) (nI_ge hi (by omega)))
      · exact absurd h1 (fun e => e.elim (nI_pos (by omega)) (nI_ge hj (by omega)))
      · exact h1
theorem od_ygp {P K : Prop} {i j : Nat} (hN : N ≤ 8) (hi : i < N) (hj : j < N) (hn : i ≠ j) (h : K) : wpY_good (fun r => (r = 0 → P) ∧ (¬ r = 0 → wpY_good (fun r' => (r' = 0 → P) ∧ (¬ r' = 0 → (nI i = nI j → P) ∧ (¬ nI i = nI j → K))) (nI N, nI R, mx, nI z, up, own, seen, st, sq, hp, nx, pre, box, ms) (nI j))) (nI N, nI R, mx, nI z, up, own, seen, st, sq, hp, nx, pre, box, ms) (nI i) := by
  refine od_yg hi hN (br_f (by decide) ?_)
  refine od_yg hj hN (br_f (by decide) ?_)
  exact br_f (od_nn (by omega) (by omega) hn) h
theorem od_ygpb {P K : Prop} {a b : Int32} (hN : N ≤ 8) (hb : od_bp N a b) (h : P) : wpY_good (fun r => (r = 0 → P) ∧ (¬ r = 0 → wpY_good (fun r' => (r' = 0 → P) ∧ (¬ r' = 0 → (a = b → P) ∧ (¬ a = b → K))) (nI N, nI R, mx, nI z, up, own, seen, st, sq, hp, nx, pre, box, ms) b)) (nI N, nI R, mx, nI z, up, own, seen, st, sq, hp, nx, pre, box, ms) a := by
  rcases od_one hN a with ha | ⟨i, hi, rfl⟩
  · exact od_ygb ha (br_t rfl h)
  · refine od_yg hi hN (br_f (by decide) ?_)
    rcases od_one hN b with hb' | ⟨j, hj, rfl⟩
    · exact od_ygb hb' (br_t rfl h)
    · refine od_yg hj hN (br_f (by decide) ?_)
      refine br_t ?_ h
      rcases hb with h1 | h1 | h1
      · exact absurd h1 (fun e => e.elim (nI_pos (by omega)) (nI_ge hi (by omega)))
      · exact absurd h1 (fun e => e.elim (nI_pos (by omega)) (nI_ge hj (by omega)))
      · exact h1
/-- both nodes are good: the reference's links -/
theorem od_yk {P : Int32 → Prop} {i j : Nat} (hN : N ≤ 8) (hu : ∀ a, a < N → up (8 * a + a) = 0) (hi : i < N) (hj : j < N) (h0 : up (8 * i + j) = 0 → P 0) (h1 : ¬ up (8 * i + j) = 0 → P 1) : wpY_linked P (nI N, nI R, mx, nI z, up, own, seen, st, sq, hp, nx, pre, box, ms) (nI i) (nI j) := by
  have c : (nI (8 * i + j)).toNatClampNeg = 8 * i + j := nI_clamp (by omega)
  unfold wpY_linked
  refine od_yg hi hN (br_f (by decide) ?_)
  refine od_yg hj hN (br_f (by decide) ?_)
  by_cases e : i = j
  · subst e; exact br_t rfl (h0 (hu i hi))
  · refine br_f (od_nn (by omega) (by omega) e) ?_
    rw [od_ye, c]
    exact ⟨vp_in_nI (by omega) (by omega), br_c h0 h1⟩
/-! need -/
def od_nd (st sq : Nat → Int32) (e : Nat) : Int32 := if st e = 0 then 0 else if st e = 2 then sq e else sq e + 1
theorem od_xn {P : Int32 → Prop} {i d : Nat} (he : 8 * i + d < 64) (h : P (od_nd st sq (8 * i + d))) : wpX_need P (nI N, nI R, mx, nI z, k1, k2, k3, k4, k5, k6, k7, k8, up, seen, st, sq, hp, nx, pc, own, ic, io, it, ms) (nI i) (nI d) := by
  have c : (nI (8 * i + d)).toNatClampNeg = 8 * i + d := nI_clamp (by omega)
  have v : vp_in (nI (8 * i + d)) 64 := vp_in_nI he (by omega)
  unfold wpX_need
  refine od_xs ?_
  rw [c]
  unfold od_nd at h
  by_cases h0 : st (8 * i + d) = 0
  · rw [if_pos h0] at h; exact ⟨v, br_t h0 h⟩
  · rw [if_neg h0] at h
    by_cases h2 : st (8 * i + d) = 2
    · rw [if_pos h2] at h; exact ⟨v, br_f h0 ⟨v, br_t h2 ⟨v, h⟩⟩⟩
    · rw [if_neg h2] at h; exact ⟨v, br_f h0 ⟨v, br_f h2 ⟨v, h⟩⟩⟩
theorem od_yn {P : Int32 → Prop} {i d : Nat} (he : 8 * i + d < 64) (h : P (od_nd st sq (8 * i + d))) : wpY_need P (nI N, nI R, mx, nI z, up, own, seen, st, sq, hp, nx, pre, box, ms) (nI i) (nI d) := by
  have c : (nI (8 * i + d)).toNatClampNeg = 8 * i + d := nI_clamp (by omega)
  have v : vp_in (nI (8 * i + d)) 64 := vp_in_nI he (by omega)
  unfold wpY_need
  refine nm_r (od_ye i d) ?_
  rw [c]
  unfold od_nd at h
  by_cases h0 : st (8 * i + d) = 0
  · rw [if_pos h0] at h; exact ⟨v, br_t h0 h⟩
  · rw [if_neg h0] at h
    by_cases h2 : st (8 * i + d) = 2
    · rw [if_pos h2] at h; exact ⟨v, br_f h0 ⟨v, br_t h2 ⟨v, h⟩⟩⟩
    · rw [if_neg h2] at h; exact ⟨v, br_f h0 ⟨v, br_f h2 ⟨v, h⟩⟩⟩
/-! posting -/
theorem od_xo1 {P : Int32 → SX → Prop} {a b c : Int32} (hz : z < R) (hR : R ≤ 32) (h : P (nI (8 * z)) (nI N, nI R, mx, nI (z + 1), k1, k2, k3, k4, k5, k6, k7, k8, up, seen, st, sq, hp, nx, pc, own, ic, io, it, upd (upd (upd ms (8 * z) a) (8 * z + 1) b) (8 * z + 2) c)) : wpX_open P (nI N, nI R, mx, nI z, k1, k2, k3, k4, k5, k6, k7, k8, up, seen, st, sq, hp, nx, pc, own, ic, io, it, ms) a b c := by
  have c0 : (nI (8 * z)).toNatClampNeg = 8 * z := nI_clamp (by omega)
  have c1 : (nI (8 * z + 1)).toNatClampNeg = 8 * z + 1 := nI_clamp (by omega)
  have c2 : (nI (8 * z + 2)).toNatClampNeg = 8 * z + 2 := nI_clamp (by omega)
  unfold wpX_open
  refine br_t (nI_lt hz (by omega)) ?_
  refine nm_r (od_m8 z) (nm_r (nI_1 z) ?_)
  rw [od_p0, nI_1 (8 * z), od_p2, c0, c1, c2]
  exact ⟨vp_in_nI (by omega) (by omega), nm_e ⟨vp_in_nI (by omega) (by omega), nm_e ⟨vp_in_nI (by omega) (by omega), nm_e h⟩⟩⟩
theorem od_xo0 {P : Int32 → SX → Prop} {a b c : Int32} (hz : ¬ z < R) (hR : z ≤ 32) (h : P (-1) (nI N, nI R, mx, nI z, k1, k2, k3, k4, k5, k6, k7, k8, up, seen, st, sq, hp, nx, pc, own, ic, io, it, ms)) : wpX_open P (nI N, nI R, mx, nI z, k1, k2, k3, k4, k5, k6, k7, k8, up, seen, st, sq, hp, nx, pc, own, ic, io, it, ms) a b c :=
  br_f (nI_nlt (by omega) (by omega)) h
theorem od_xf1 {P : SX → Prop} {b : Nat} {o g n d x : Int32} (hb : b + 7 < 256) (h : P (nI N, nI R, mx, nI z, k1, k2, k3, k4, k5, k6, k7, k8, up, seen, st, sq, hp, nx, pc, own, ic, io, it, upd (upd (upd (upd (upd ms (b + 3) o) (b + 4) g) (b + 5) n) (b + 6) d) (b + 7) x)) : wpX_fill P (nI N, nI R, mx, nI z, k1, k2, k3, k4, k5, k6, k7, k8, up, seen, st, sq, hp, nx, pc, own, ic, io, it, ms) (nI b) o g n d x := by
  have c3 : (nI (b + 3)).toNatClampNeg = b + 3 := nI_clamp (by omega)
  have c4 : (nI (b + 4)).toNatClampNeg = b + 4 := nI_clamp (by omega)
  have c5 : (nI (b + 5)).toNatClampNeg = b + 5 := nI_clamp (by omega)
  have c6 : (nI (b + 6)).toNatClampNeg = b + 6 := nI_clamp (by omega)
  have c7 : (nI (b + 7)).toNatClampNeg = b + 7 := nI_clamp (by omega)
  unfold wpX_fill
  refine br_t (nI_pos' (by omega)) ?_
  rw [od_p3, od_p4, od_p5, od_p6, od_p7, c3, c4, c5, c6, c7]
  exact ⟨vp_in_nI (by omega) (by omega), nm_e ⟨vp_in_nI (by omega) (by omega), nm_e ⟨vp_in_nI (by omega) (by omega), nm_e ⟨vp_in_nI (by omega) (by omega), nm_e ⟨vp_in_nI (by omega) (by omega), nm_e h⟩⟩⟩⟩⟩
theorem od_xf0 {P : SX → Prop} {o g n d x : Int32} (h : P (nI N, nI R, mx, nI z, k1, k2, k3, k4, k5, k6, k7, k8, up, seen, st, sq, hp, nx, pc, own, ic, io, it, ms)) : wpX_fill P (nI N, nI R, mx, nI z, k1, k2, k3, k4, k5, k6, k7, k8, up, seen, st, sq, hp, nx, pc, own, ic, io, it, ms) (-1) o g n d x :=
  br_f (by decide) h
theorem od_yp1 {P : Int32 → SY → Prop} {k f t o g n d : Int32} (hz : z < R) (hR : R ≤ 32) (h : P 1 (nI N, nI R, mx, nI (z + 1), up, own, seen, st, sq, hp, nx, pre, box, od_w ms (8 * z) k f t o g n d 0)) : wpY_post P (nI N, nI R, mx, nI z, up, own, seen, st, sq, hp, nx, pre, box, ms) k f t o g n d := by
  have c0 : (nI (8 * z)).toNatClampNeg = 8 * z := nI_clamp (by omega)
  have c1 : (nI (8 * z + 1)).toNatClampNeg = 8 * z + 1 := nI_clamp (by omega)
  have c2 : (nI (8 * z + 2)).toNatClampNeg = 8 * z + 2 := nI_clamp (by omega)
  have c3 : (nI (8 * z + 3)).toNatClampNeg = 8 * z + 3 := nI_clamp (by omega)
  have c4 : (nI (8 * z + 4)).toNatClampNeg = 8 * z + 4 := nI_clamp (by omega)
  have c5 : (nI (8 * z + 5)).toNatClampNeg = 8 * z + 5 := nI_clamp (by omega)
  have c6 : (nI (8 * z + 6)).toNatClampNeg = 8 * z + 6 := nI_clamp (by omega)
  have c7 : (nI (8 * z + 7)).toNatClampNeg = 8 * z + 7 := nI_clamp (by omega)
  unfold wpY_post
  refine br_t (nI_lt hz (by omega)) ?_
  refine nm_r (od_8m z) ?_
  rw [od_p0, nI_1 (8 * z), od_p2, od_p3, od_p4, od_p5, od_p6, od_p7, c0, c1, c2, c3, c4, c5, c6, c7]
  exact ⟨vp_in_nI (by omega) (by omega), nm_e ⟨vp_in_nI (by omega) (by omega), nm_e ⟨vp_in_nI (by omega) (by omega), nm_e ⟨vp_in_nI (by omega) (by omega), nm_e ⟨vp_in_nI (by omega) (by omega), nm_e ⟨vp_in_nI (by omega) (by omega), nm_e ⟨vp_in_nI (by omega) (by omega), nm_e ⟨vp_in_nI (by omega) (by omega), nm_e (nm_r (nI_1 z) h)⟩⟩⟩⟩⟩⟩⟩⟩
theorem od_yp0 {P : Int32 → SY → Prop} {k f t o g n d : Int32} (hz : ¬ z < R) (hR : z ≤ 32) (h : P 0 (nI N, nI R, mx, nI z, up, own, seen, st, sq, hp, nx, pre, box, ms)) : wpY_post P (nI N, nI R, mx, nI z, up, own, seen, st, sq, hp, nx, pre, box, ms) k f t o g n d :=
  br_f (nI_nlt (by omega) (by omega)) h
theorem od_yx {P : SY → Prop} {x : Int32} (hz : z < 32) (h : P (nI N, nI R, mx, nI (z + 1), up, own, seen, st, sq, hp, nx, pre, box, upd ms (8 * z + 7) x)) : wpY_extra P (nI N, nI R, mx, nI (z + 1), up, own, seen, st, sq, hp, nx, pre, box, ms) x := by
  have c7 : (nI (8 * z + 7)).toNatClampNeg = 8 * z + 7 := nI_clamp (by omega)
  unfold wpY_extra
  refine br_f (nI_nle (by omega) (by omega)) ?_
  rw [nI_pred z, od_8m, od_p7, c7]
  exact ⟨vp_in_nI (by omega) (by omega), nm_e h⟩
/-- post and extra together -/
theorem od_yx8 {P : SY → Prop} {k f t o g n d x : Int32} (hz : z < 32) (h : P (nI N, nI R, mx, nI (z + 1), up, own, seen, st, sq, hp, nx, pre, box, od_w ms (8 * z) k f t o g n d x)) : wpY_extra P (nI N, nI R, mx, nI (z + 1), up, own, seen, st, sq, hp, nx, pre, box, od_w ms (8 * z) k f t o g n d 0) x := by
  refine od_yx hz ?_
  rw [od_wx]; exact h
theorem od_xe1 {P : SX → Prop} {a b g n : Int32} (hz : z < R) (hR : R ≤ 32) (h : P (nI N, nI R, mx, nI (z + 1), k1, k2, k3, k4, k5, k6, k7, k8, up, seen, st, sq, hp, nx, pc, own, ic, io, it, od_w ms (8 * z) 4 a b 0 g n 0 0)) : wpX_postError P (nI N, nI R, mx, nI z, k1, k2, k3, k4, k5, k6, k7, k8, up, seen, st, sq, hp, nx, pc, own, ic, io, it, ms) a b g n := by
  unfold wpX_postError
  refine od_xo1 hz hR ?_
  exact od_xf1 (by omega) h
theorem od_xe0 {P : SX → Prop} {a b g n : Int32} (hz : ¬ z < R) (hR : z ≤ 32) (h : P (nI N, nI R, mx, nI z, k1, k2, k3, k4, k5, k6, k7, k8, up, seen, st, sq, hp, nx, pc, own, ic, io, it, ms)) : wpX_postError P (nI N, nI R, mx, nI z, k1, k2, k3, k4, k5, k6, k7, k8, up, seen, st, sq, hp, nx, pc, own, ic, io, it, ms) a b g n := by
  unfold wpX_postError
  refine od_xo0 hz hR ?_
  exact od_xf0 h
/-! learn -/
def od_lc (st sq hp : Nat → Int32) (e : Nat) (s h : Int32) : Prop := st e = 0 ∨ sq e < s ∨ (s = sq e ∧ st e = 2 ∧ ¬ hp e ≤ h)
theorem od_x53y {P : SX → Prop} {s h v w : Int32} {e : Nat} (he : e < 64) (hc : st e = 0 ∨ sq e < s ∨ ¬ w = 0) (hP : P (nI N, nI R, mx, nI z, k1, k2, k3, k4, k5, k6, k7, k8, up, seen, upd st e 2, upd sq e s, upd hp e h, upd nx e v, pc, own, ic, io, it, ms)) : wX_learn_53 P s h v (nI e) w (nI N) (nI R) mx (nI z) k1 k2 k3 k4 k5 k6 k7 k8 up seen st sq hp nx pc own ic io it ms := by
  have c : (nI e).toNatClampNeg = e := nI_clamp (by omega)
  have vi : vp_in (nI e) 64 := vp_in_nI he (by omega)
  have k : wX_learn_81 P s h v (nI e) (nI N) (nI R) mx (nI z) k1 k2 k3 k4 k5 k6 k7 k8 up seen st sq hp nx pc own ic io it ms := by
    unfold wX_learn_81
    rw [c]
    exact ⟨vi, nm_e ⟨vi, nm_e ⟨vi, nm_e ⟨vi, nm_e hP⟩⟩⟩⟩
  unfold wX_learn_53
  rw [c]
  refine ⟨vi, br_c (fun _ => k) (fun h0 => ⟨vi, br_c (fun _ => k) (fun h1 => ?_)⟩)⟩
  exact br_f ((hc.resolve_left h0).resolve_left h1) k
theorem od_x53n {P : SX → Prop} {s h v w : Int32} {e : Nat} (he : e < 64) (h0 : ¬ st e = 0) (h1 : ¬ sq e < s) (hw : w = 0) (hP : P (nI N, nI R, mx, nI z, k1, k2, k3, k4, k5, k6, k7, k8, up, seen, st, sq, hp, nx, pc, own, ic, io, it, ms)) : wX_learn_53 P s h v (nI e) w (nI N) (nI R) mx (nI z) k1 k2 k3 k4 k5 k6 k7 k8 up seen st sq hp nx pc own ic io it ms := by
  have c : (nI e).toNatClampNeg = e := nI_clamp (by omega)
  have vi : vp_in (nI e) 64 := vp_in_nI he (by omega)
  unfold wX_learn_53
  rw [c]
  exact ⟨vi, br_f h0 ⟨vi, br_f h1 (br_t hw hP)⟩⟩
theorem od_xly {P : SX → Prop} {i d : Nat} {s h v : Int32} (hi : i < 8) (hd : d < 8) (hn : i ≠ d) (hc : od_lc st sq hp (8 * i + d) s h) (hP : P (nI N, nI R, mx, nI z, k1, k2, k3, k4, k5, k6, k7, k8, up, seen, upd st (8 * i + d) 2, upd sq (8 * i + d) s, upd hp (8 * i + d) h, upd nx (8 * i + d) v, pc, own, ic, io, it, ms)) : wpX_learn P (nI N, nI R, mx, nI z, k1, k2, k3, k4, k5, k6, k7, k8, up, seen, st, sq, hp, nx, pc, own, ic, io, it, ms) (nI i) (nI d) s h v := by
  have c : (nI (8 * i + d)).toNatClampNeg = 8 * i + d := nI_clamp (by omega)
  have vi : vp_in (nI (8 * i + d)) 64 := vp_in_nI (by omega) (by omega)
  unfold wpX_learn
  refine br_f (od_nn hi hd hn) ?_
  refine od_xs ?_
  rw [c]
  refine ⟨vi, br_c (fun e1 => ⟨vi, br_c (fun e2 => ⟨vi, br_c (fun e3 => ?_) (fun e3 => ?_)⟩) (fun e2 => ?_)⟩) (fun e1 => ?_)⟩
  · exact od_x53y (by omega) (hc.imp_right (fun q => q.imp_right (fun t => absurd e3 t.2.2))) hP
  · exact od_x53y (by omega) (Or.inr (Or.inr (by decide))) hP
  · exact od_x53y (by omega) (hc.imp_right (fun q => q.imp_right (fun t => absurd t.2.1 e2))) hP
  · exact od_x53y (by omega) (hc.imp_right (fun q => q.imp_right (fun t => absurd t.1 e1))) hP
theorem od_xln {P : SX → Prop} {i d : Nat} {s h v : Int32} (hi : i < 8) (hd : d < 8) (hn : i ≠ d) (hc : ¬ od_lc st sq hp (8 * i + d) s h) (hP : P (nI N, nI R, mx, nI z, k1, k2, k3, k4, k5, k6, k7, k8, up, seen, st, sq, hp, nx, pc, own, ic, io, it, ms)) : wpX_learn P (nI N, nI R, mx, nI z, k1, k2, k3, k4, k5, k6, k7, k8, up, seen, st, sq, hp, nx, pc, own, ic, io, it, ms) (nI i) (nI d) s h v := by
  have c : (nI (8 * i + d)).toNatClampNeg = 8 * i + d := nI_clamp (by omega)
  have vi : vp_in (nI (8 * i + d)) 64 := vp_in_nI (by omega) (by omega)
  have h0 : ¬ st (8 * i + d) = 0 := fun e => hc (Or.inl e)
  have h1 : ¬ sq (8 * i + d) < s := fun e => hc (Or.inr (Or.inl e))
  unfold wpX_learn
  refine br_f (od_nn hi hd hn) ?_
  refine od_xs ?_
  rw [c]
  refine ⟨vi, br_c (fun e1 => ⟨vi, br_c (fun e2 => ⟨vi, br_c (fun e3 => ?_) (fun e3 => ?_)⟩) (fun e2 => ?_)⟩) (fun e1 => ?_)⟩
  · exact od_x53n (by omega) h0 h1 rfl hP
  · exact absurd (Or.inr (Or.inr ⟨e1, e2, e3⟩)) hc
  · exact od_x53n (by omega) h0 h1 rfl hP
  · exact od_x53n (by omega) h0 h1 rfl hP
theorem od_xle {P : SX → Prop} {i : Nat} {s h v : Int32} (hP : P (nI N, nI R, mx, nI z, k1, k2, k3, k4, k5, k6, k7, k8, up, seen, st, sq, hp, nx, pc, own, ic, io, it, ms)) : wpX_learn P (nI N, nI R, mx, nI z, k1, k2, k3, k4, k5, k6, k7, k8, up, seen, st, sq, hp, nx, pc, own, ic, io, it, ms) (nI i) (nI i) s h v := br_t rfl hP
theorem od_yly {P : SY → Prop} {i d : Nat} {s h v : Int32} (hi : i < 8) (hd : d < 8) (hn : i ≠ d) (hc : od_lc st sq hp (8 * i + d) s h) (hP : P (nI N, nI R, mx, nI z, up, own, seen, upd st (8 * i + d) 2, upd sq (8 * i + d) s, upd hp (8 * i + d) h, upd nx (8 * i + d) v, pre, box, ms)) : wpY_learn P (nI N, nI R, mx, nI z, up, own, seen, st, sq, hp, nx, pre, box, ms) (nI i) (nI d) s h v := by
  have c : (nI (8 * i + d)).toNatClampNeg = 8 * i + d := nI_clamp (by omega)
  have vi : vp_in (nI (8 * i + d)) 64 := vp_in_nI (by omega) (by omega)
  have k : wY_learn_69 P s h v (nI (8 * i + d)) (nI N) (nI R) mx (nI z) up own seen st sq hp nx pre box ms := by
    unfold wY_learn_69
    rw [c]
    exact ⟨vi, nm_e ⟨vi, nm_e ⟨vi, nm_e ⟨vi, nm_e hP⟩⟩⟩⟩
  unfold wpY_learn
  refine nm_r (od_ye i d) ?_
  refine br_f (od_nn hi hd hn) ?_
  rw [c]
  refine ⟨vi, br_c (fun _ => k) (fun h0 => ⟨vi, br_c (fun _ => k) (fun h1 => ⟨vi, ?_⟩)⟩)⟩
  have t := (hc.resolve_left h0).resolve_left h1
  exact br_t t.1 ⟨vi, br_t t.2.1 ⟨vi, br_f t.2.2 k⟩⟩
theorem od_yln {P : SY → Prop} {i d : Nat} {s h v : Int32} (hi : i < 8) (hd : d < 8) (hn : i ≠ d) (hc : ¬ od_lc st sq hp (8 * i + d) s h) (hP : P (nI N, nI R, mx, nI z, up, own, seen, st, sq, hp, nx, pre, box, ms)) : wpY_learn P (nI N, nI R, mx, nI z, up, own, seen, st, sq, hp, nx, pre, box, ms) (nI i) (nI d) s h v := by
  have c : (nI (8 * i + d)).toNatClampNeg = 8 * i + d := nI_clamp (by omega)
  have vi : vp_in (nI (8 * i + d)) 64 := vp_in_nI (by omega) (by omega)
  have h0 : ¬ st (8 * i + d) = 0 := fun e => hc (Or.inl e)
  have h1 : ¬ sq (8 * i + d) < s := fun e => hc (Or.inr (Or.inl e))
  unfold wpY_learn
  refine nm_r (od_ye i d) ?_
  refine br_f (od_nn hi hd hn) ?_
  rw [c]
  refine ⟨vi, br_f h0 ⟨vi, br_f h1 ⟨vi, br_c (fun e1 => ⟨vi, br_c (fun e2 => ⟨vi, br_c (fun _ => hP) (fun e3 => ?_)⟩) (fun _ => hP)⟩) (fun _ => hP)⟩⟩⟩
  exact absurd (Or.inr (Or.inr ⟨e1, e2, e3⟩)) hc
theorem od_yle {P : SY → Prop} {i : Nat} {s h v : Int32} (hP : P (nI N, nI R, mx, nI z, up, own, seen, st, sq, hp, nx, pre, box, ms)) : wpY_learn P (nI N, nI R, mx, nI z, up, own, seen, st, sq, hp, nx, pre, box, ms) (nI i) (nI i) s h v := fun _ _ => br_t rfl hP
end od3
theorem od_learn (N R z : Nat) (mx k1 k2 k3 k4 k5 k6 k7 k8 : Int32) (up seen st sq hp nx pc own ic io it ms pre box : Nat → Int32) (J : od_J N R z up st nx pc pre ms) {i d v : Nat} (hi : i < N) (hd : d < N) (hv : v < N) (s h : Int32) : ∃ st' sq' hp' nx' : Nat → Int32, od_J N R z up st' nx' pc pre ms ∧ (∀ P : SX → Prop, P (nI N, nI R, mx, nI z, k1, k2, k3, k4, k5, k6, k7, k8, up, seen, st', sq', hp', nx', pc, own, ic, io, it, ms) → wpX_learn P (nI N, nI R, mx, nI z, k1, k2, k3, k4, k5, k6, k7, k8, up, seen, st, sq, hp, nx, pc, own, ic, io, it, ms) (nI i) (nI d) s h (nI v)) ∧ (∀ P : SY → Prop, P (nI N, nI R, mx, nI z, up, own, seen, st', sq', hp', nx', pre, box, ms) → wpY_learn P (nI N, nI R, mx, nI z, up, own, seen, st, sq, hp, nx, pre, box, ms) (nI i) (nI d) s h (nI v)) := by
  have hz := od_Jz J
  by_cases e : i = d
  · subst e
    exact ⟨st, sq, hp, nx, J, fun P hP => od_xle hP, fun P hP => od_yle hP⟩
  · by_cases c : od_lc st sq hp (8 * i + d) s h
    · exact ⟨upd st (8 * i + d) 2, upd sq (8 * i + d) s, upd hp (8 * i + d) h, upd nx (8 * i + d) (nI v), od_Jln J (8 * i + d) hv, fun P hP => od_xly (by omega) (by omega) e c hP, fun P hP => od_yly (by omega) (by omega) e c hP⟩
    · exact ⟨st, sq, hp, nx, J, fun P hP => od_xln (by omega) (by omega) e c hP, fun P hP => od_yln (by omega) (by omega) e c hP⟩
end
section
/-! lose, breakVia -/
section od4
variable {N R z : Nat} {mx k1 k2 k3 k4 k5 k6 k7 k8 : Int32} {up seen st sq hp nx pc own ic io it ms pre box : Nat → Int32}
theorem od_y68 {P : SY → Prop} {e : Nat} (he : e < 64) (h : P (nI N, nI R, mx, nI z, up, own, seen, st, sq, hp, nx, od_cl pre e 8, box, ms)) : ∀ m p : Nat, p + m = 8 → wY_lose_68 P (nI e) (nI N) (nI R) mx (nI z) (m + 1) (nI p) up own seen st sq hp nx (od_cl pre e p) box ms := by
  intro m
  induction m with
  | zero =>
    intro p hp
    have e8 : p = 8 := by omega
    subst e8
    exact br_t (nI_le (a := 8) (b := 8) (by omega) (by omega)) h
  | succ m ih =>
    intro p hp
    have c : (nI (8 * e + p)).toNatClampNeg = 8 * e + p := nI_clamp (by omega)
    refine br_f (nI_ge (a := p) (b := 8) (by omega) (by omega)) ?_
    rw [od_ye, c, od_n0, od_cl1]
    exact ⟨vp_in_nI (by omega) (by omega), nm_e (nm_r (nI_1 p) (ih (p + 1) (by omega)))⟩
end od4
theorem od_lose17 {i d e : Nat} (he : e < 64) : ∀ (m p : Nat) (N R z : Nat) (mx k1 k2 k3 k4 k5 k6 k7 k8 : Int32) (up seen st sq hp nx pc own ic io it ms pre box : Nat → Int32), i < N → d < N → p + m = N → od_J N R z up st nx pc pre ms → ∃ (z' : Nat) (ms' : Nat → Int32), od_J N R z' up st nx pc pre ms' ∧ (∀ P : SX → Prop, P (nI N, nI R, mx, nI z', k1, k2, k3, k4, k5, k6, k7, k8, up, seen, st, sq, hp, nx, upd pc e 0, own, ic, io, it, ms') → wX_lose_17 P (nI i) (nI d) (nI e) (m + 1) (nI p) (nI N) (nI R) mx (nI z) k1 k2 k3 k4 k5 k6 k7 k8 up seen st sq hp nx pc own ic io it ms) ∧ (∀ P : SY → Prop, P (nI N, nI R, mx, nI z', up, own, seen, st, sq, hp, nx, od_cl pre e 8, box, ms') → wY_lose_17 P (nI i) (nI d) (nI e) (m + 1) (nI p) (nI N) (nI R) mx (nI z) up own seen st sq hp nx pre box ms) := by
  have ce : (nI e).toNatClampNeg = e := nI_clamp (by omega)
  have ve : vp_in (nI e) 64 := vp_in_nI he (by omega)
  intro m
  induction m with
  | zero =>
    intro p N R z mx k1 k2 k3 k4 k5 k6 k7 k8 up seen st sq hp nx pc own ic io it ms pre box hi hd hpm J
    have hz := od_Jz J
    refine ⟨z, ms, J, fun P hP => ?_, fun P hP => ?_⟩
    · refine br_t (nI_le (by omega) (by omega)) ?_
      rw [ce]
      exact ⟨ve, nm_e hP⟩
    · refine br_t (nI_le (by omega) (by omega)) ⟨9, ?_⟩
      have k := od_y68 (P := P) he hP 8 0 rfl
      rw [od_cl0] at k
      exact k
  | succ m ih =>
    intro p N R z mx k1 k2 k3 k4 k5 k6 k7 k8 up seen st sq hp nx pc own ic io it ms pre box hi hd hpm J
    have hz := od_Jz J
    have cp : (nI (8 * e + p)).toNatClampNeg = 8 * e + p := nI_clamp (by omega)
    have vp : vp_in (nI (8 * e + p)) 512 := vp_in_nI (by omega) (by omega)
    have hN : ¬ nI N ≤ nI p := nI_ge (by omega) (by omega)
    have hb := od_Jpc J he (p := p) (by omega)
    by_cases h0 : pre (8 * e + p) = 0
    · obtain ⟨z', ms', J', hX, hY⟩ := ih (p + 1) N R z mx k1 k2 k3 k4 k5 k6 k7 k8 up seen st sq hp nx pc own ic io it ms pre box hi hd (by omega) J
      refine ⟨z', ms', J', fun P hP => br_f hN ?_, fun P hP => br_f hN ?_⟩
      · rw [ce]
        exact ⟨ve, br_t (hb.mpr h0) (nm_r (nI_1 p) (hX P hP))⟩
      · rw [od_ye, cp]
        exact ⟨vp, br_t h0 (nm_r (nI_1 p) (hY P hP))⟩
    · by_cases hR : z < R
      · obtain ⟨z', ms', J', hX, hY⟩ := ih (p + 1) N R (z + 1) mx k1 k2 k3 k4 k5 k6 k7 k8 up seen st sq hp nx pc own ic io it (od_w ms (8 * z) 4 (nI i) (nI p) 0 (nI d) (sq e) 0 0) pre box hi hd (by omega) (od_Jp J hR hi (by omega) (o := 0) (by omega) hd _ _ _ _)
        refine ⟨z', ms', J', fun P hP => br_f hN ?_, fun P hP => br_f hN ?_⟩
        · rw [ce]
          refine ⟨ve, br_f (fun q => h0 (hb.mp q)) ⟨ve, ?_⟩⟩
          refine od_xe1 hR (by omega) ?_
          exact nm_r (nI_1 p) (hX P hP)
        · rw [od_ye, cp, ce]
          refine ⟨vp, br_f h0 ⟨ve, ?_⟩⟩
          refine od_yp1 hR (by omega) ?_
          exact nm_r (nI_1 p) (hY P hP)
      · obtain ⟨z', ms', J', hX, hY⟩ := ih (p + 1) N R z mx k1 k2 k3 k4 k5 k6 k7 k8 up seen st sq hp nx pc own ic io it ms pre box hi hd (by omega) J
        refine ⟨z', ms', J', fun P hP => br_f hN ?_, fun P hP => br_f hN ?_⟩
        · rw [ce]
          refine ⟨ve, br_f (fun q => h0 (hb.mp q)) ⟨ve, ?_⟩⟩
          refine od_xe0 hR (by omega) ?_
          exact nm_r (nI_1 p) (hX P hP)
        · rw [od_ye, cp, ce]
          refine ⟨vp, br_f h0 ⟨ve, ?_⟩⟩
          refine od_yp0 hR (by omega) ?_
          exact nm_r (nI_1 p) (hY P hP)
theorem od_lose (N R z : Nat) (mx k1 k2 k3 k4 k5 k6 k7 k8 : Int32) (up seen st sq hp nx pc own ic io it ms pre box : Nat → Int32) (J : od_J N R z up st nx pc pre ms) {i d : Nat} (hi : i < N) (hd : d < N) : ∃ (z' : Nat) (pc' pre' ms' : Nat → Int32), od_J N R z' up (upd st (8 * i + d) 1) nx pc' pre' ms' ∧ (∀ P : SX → Prop, P (nI N, nI R, mx, nI z', k1, k2, k3, k4, k5, k6, k7, k8, up, seen, upd st (8 * i + d) 1, sq, hp, nx, pc', own, ic, io, it, ms') → wpX_lose P (nI N, nI R, mx, nI z, k1, k2, k3, k4, k5, k6, k7, k8, up, seen, st, sq, hp, nx, pc, own, ic, io, it, ms) (nI i) (nI d)) ∧ (∀ P : SY → Prop, P (nI N, nI R, mx, nI z', up, own, seen, upd st (8 * i + d) 1, sq, hp, nx, pre', box, ms') → wpY_lose P (nI N, nI R, mx, nI z, up, own, seen, st, sq, hp, nx, pre, box, ms) (nI i) (nI d)) := by
  have hz := od_Jz J
  have c : (nI (8 * i + d)).toNatClampNeg = 8 * i + d := nI_clamp (by omega)
  have v : vp_in (nI (8 * i + d)) 64 := vp_in_nI (by omega) (by omega)
  obtain ⟨z', ms', J', hX, hY⟩ := od_lose17 (i := i) (d := d) (e := 8 * i + d) (by omega) N 0 N R z mx k1 k2 k3 k4 k5 k6 k7 k8 up seen (upd st (8 * i + d) 1) sq hp nx pc own ic io it ms pre box hi hd (by omega) (od_Jst J _)
  refine ⟨z', upd pc (8 * i + d) 0, od_cl pre (8 * i + d) 8, ms', od_Jcl J' _, fun P hP => ?_, fun P hP => ?_⟩
  · unfold wpX_lose
    refine od_xs ?_
    rw [c]
    exact ⟨v, nm_e ⟨N + 1, hX P hP⟩⟩
  · unfold wpY_lose
    refine nm_r (od_ye i d) ?_
    rw [c]
    exact ⟨v, nm_e ⟨N + 1, hY P hP⟩⟩
/-! the valid entries of a node -/
def od_cn (st : Nat → Int32) (i : Nat) : Nat → Nat → Nat
  | 0, _ => 0
  | m + 1, d => (if st (8 * i + d) = 2 then 1 else 0) + od_cn st i m (d + 1)
theorem od_cn_n (st : Nat → Int32) (i e : Nat) (x : Int32) : ∀ m d, (e < 8 * i + d ∨ 8 * i + d + m ≤ e) → od_cn (upd st e x) i m d = od_cn st i m d := by
  intro m
  induction m with
  | zero => intro d _; rfl
  | succ m ih =>
    intro d h
    unfold od_cn
    rw [pk_un (by omega), ih (d + 1) (by omega)]
theorem od_cn_1 (st : Nat → Int32) (i e : Nat) (he : st e = 2) : ∀ m d, 8 * i + d ≤ e → e < 8 * i + d + m → od_cn (upd st e 1) i m d + 1 = od_cn st i m d := by
  intro m
  induction m with
  | zero => intro d _ _; omega
  | succ m ih =>
    intro d h1 h2
    unfold od_cn
    by_cases c : 8 * i + d = e
    · rw [od_cn_n st i e 1 m (d + 1) (by omega), c, pk_us, if_neg (by decide), if_pos he]; omega
    · have k := ih (d + 1) (by omega) (by omega)
      rw [pk_un c]; omega
theorem od_cn_le (st : Nat → Int32) (i : Nat) : ∀ m d, od_cn st i m d ≤ m := by
  intro m
  induction m with
  | zero => intro d; exact Nat.le_refl _
  | succ m ih =>
    intro d
    have k := ih (d + 1)
    unfold od_cn
    by_cases c : st (8 * i + d) = 2
    · rw [if_pos c]; omega
    · rw [if_neg c]; omega
theorem od_brk5 {i : Nat} (w : Int32) : ∀ (m d l : Nat) (N R z : Nat) (mx k1 k2 k3 k4 k5 k6 k7 k8 : Int32) (up seen st sq hp nx pc own ic io it ms pre box : Nat → Int32), i < N → d + m = N → od_J N R z up st nx pc pre ms → ∃ (q z' : Nat) (st' pc' pre' ms' : Nat → Int32), od_J N R z' up st' nx pc' pre' ms' ∧ od_cn st' i N 0 + q = od_cn st i N 0 ∧ (∀ P : Int32 → SX → Prop, P (nI (l + q)) (nI N, nI R, mx, nI z', k1, k2, k3, k4, k5, k6, k7, k8, up, seen, st', sq, hp, nx, pc', own, ic, io, it, ms') → wX_breakVia_5 P (nI i) w (m + 1) (nI l) (nI d) (nI N) (nI R) mx (nI z) k1 k2 k3 k4 k5 k6 k7 k8 up seen st sq hp nx pc own ic io it ms) ∧ (∀ P : SY → Prop, P (nI N, nI R, mx, nI z', up, own, seen, st', sq, hp, nx, pre', box, ms') → wY_breakOff_2 P (nI i) w (m + 1) (nI d) (nI N) (nI R) mx (nI z) up own seen st sq hp nx pre box ms) := by
  intro m
  induction m with
  | zero =>
    intro d l N R z mx k1 k2 k3 k4 k5 k6 k7 k8 up seen st sq hp nx pc own ic io it ms pre box hi hd J
    have hz := od_Jz J
    exact ⟨0, z, st, pc, pre, ms, J, rfl, fun P hP => br_t (nI_le (by omega) (by omega)) hP, fun P hP => br_t (nI_le (by omega) (by omega)) hP⟩
  | succ m ih =>
    intro d l N R z mx k1 k2 k3 k4 k5 k6 k7 k8 up seen st sq hp nx pc own ic io it ms pre box hi hd J
    have hz := od_Jz J
    have c : (nI (8 * i + d)).toNatClampNeg = 8 * i + d := nI_clamp (by omega)
    have v : vp_in (nI (8 * i + d)) 64 := vp_in_nI (by omega) (by omega)
    have hN : ¬ nI N ≤ nI d := nI_ge (by omega) (by omega)
    by_cases e : d = i
    · subst e
      obtain ⟨q, z', st', pc', pre', ms', J', hq, hX, hY⟩ := ih (d + 1) l N R z mx k1 k2 k3 k4 k5 k6 k7 k8 up seen st sq hp nx pc own ic io it ms pre box hi (by omega) J
      refine ⟨q, z', st', pc', pre', ms', J', hq, fun P hP => br_f hN ?_, fun P hP => br_f hN ?_⟩
      · refine od_xs ?_
        exact br_t rfl (nm_r (nI_1 d) (hX P hP))
      · exact br_t rfl (nm_r (nI_1 d) (hY P hP))
    · have hne : ¬ nI d = nI i := od_nn (by omega) (by omega) e
      by_cases h2 : st (8 * i + d) = 2
      · by_cases hw : nx (8 * i + d) = w
        · obtain ⟨z1, pc1, pre1, ms1, J1, hX1, hY1⟩ := od_lose N R z mx k1 k2 k3 k4 k5 k6 k7 k8 up seen st sq hp nx pc own ic io it ms pre box J hi (d := d) (by omega)
          obtain ⟨q, z', st', pc', pre', ms', J', hq, hX, hY⟩ := ih (d + 1) (l + 1) N R z1 mx k1 k2 k3 k4 k5 k6 k7 k8 up seen (upd st (8 * i + d) 1) sq hp nx pc1 own ic io it ms1 pre1 box hi (by omega) J1
          have k := od_cn_1 st i (8 * i + d) h2 N 0 (by omega) (by omega)
          refine ⟨q + 1, z', st', pc', pre', ms', J', by omega, fun P hP => br_f hN ?_, fun P hP => br_f hN ?_⟩
          · refine od_xs ?_
            rw [c]
            refine br_f hne ⟨v, br_t h2 ⟨v, br_t hw ?_⟩⟩
            refine hX1 _ ?_
            refine nm_r (nI_1 l) (nm_r (nI_1 d) (hX P ?_))
            rw [show l + 1 + q = l + (q + 1) by omega]
            exact hP
          · rw [od_ye, c]
            refine br_f hne ⟨v, br_t h2 ⟨v, br_t hw ?_⟩⟩
            refine hY1 _ ?_
            exact nm_r (nI_1 d) (hY P hP)
        · obtain ⟨q, z', st', pc', pre', ms', J', hq, hX, hY⟩ := ih (d + 1) l N R z mx k1 k2 k3 k4 k5 k6 k7 k8 up seen st sq hp nx pc own ic io it ms pre box hi (by omega) J
          refine ⟨q, z', st', pc', pre', ms', J', hq, fun P hP => br_f hN ?_, fun P hP => br_f hN ?_⟩
          · refine od_xs ?_
            rw [c]
            exact br_f hne ⟨v, br_t h2 ⟨v, br_f hw (nm_r (nI_1 d) (hX P hP))⟩⟩
          · rw [od_ye, c]
            exact br_f hne ⟨v, br_t h2 ⟨v, br_f hw (nm_r (nI_1 d) (hY P hP))⟩⟩
      · obtain ⟨q, z', st', pc', pre', ms', J', hq, hX, hY⟩ := ih (d + 1) l N R z mx k1 k2 k3 k4 k5 k6 k7 k8 up seen st sq hp nx pc own ic io it ms pre box hi (by omega) J
        refine ⟨q, z', st', pc', pre', ms', J', hq, fun P hP => br_f hN ?_, fun P hP => br_f hN ?_⟩
        · refine od_xs ?_
          rw [c]
          exact br_f hne ⟨v, br_f h2 (nm_r (nI_1 d) (hX P hP))⟩
        · rw [od_ye, c]
          exact br_f hne ⟨v, br_f h2 (nm_r (nI_1 d) (hY P hP))⟩
theorem od_brk (N R z : Nat) (mx k1 k2 k3 k4 k5 k6 k7 k8 : Int32) (up seen st sq hp nx pc own ic io it ms pre box : Nat → Int32) (J : od_J N R z up st nx pc pre ms) {i : Nat} (hi : i < N) (w : Int32) : ∃ (q z' : Nat) (st' pc' pre' ms' : Nat → Int32), od_J N R z' up st' nx pc' pre' ms' ∧ od_cn st' i N 0 + q = od_cn st i N 0 ∧ (∀ P : Int32 → SX → Prop, P (nI q) (nI N, nI R, mx, nI z', k1, k2, k3, k4, k5, k6, k7, k8, up, seen, st', sq, hp, nx, pc', own, ic, io, it, ms') → wpX_breakVia P (nI N, nI R, mx, nI z, k1, k2, k3, k4, k5, k6, k7, k8, up, seen, st, sq, hp, nx, pc, own, ic, io, it, ms) (nI i) w) ∧ (∀ P : SY → Prop, P (nI N, nI R, mx, nI z', up, own, seen, st', sq, hp, nx, pre', box, ms') → wpY_breakOff P (nI N, nI R, mx, nI z, up, own, seen, st, sq, hp, nx, pre, box, ms) (nI i) w) := by
  obtain ⟨q, z', st', pc', pre', ms', J', hq, hX, hY⟩ := od_brk5 w N 0 0 N R z mx k1 k2 k3 k4 k5 k6 k7 k8 up seen st sq hp nx pc own ic io it ms pre box hi (by omega) J
  refine ⟨q, z', st', pc', pre', ms', J', hq, fun P hP => ⟨N + 1, hX P ?_⟩, fun P hP => ⟨N + 1, hY P hP⟩⟩
  rw [Nat.zero_add]; exact hP
end
section
/-! the relation; one outcome for both sides -/
def od_R (u : SX) (v : SY) : Prop := ∀ Q : SX → SY → Prop, (∀ (N R z : Nat) (mx k1 k2 k3 k4 k5 k6 k7 k8 : Int32) (up seen st sq hp nx pc own ic io it ms pre box : Nat → Int32), od_J N R z up st nx pc pre ms → od_Bx ic io it box → Q (nI N, nI R, mx, nI z, k1, k2, k3, k4, k5, k6, k7, k8, up, seen, st, sq, hp, nx, pc, own, ic, io, it, ms) (nI N, nI R, mx, nI z, up, own, seen, st, sq, hp, nx, pre, box, ms)) → Q u v
theorem od_Ri (N R z : Nat) (mx k1 k2 k3 k4 k5 k6 k7 k8 : Int32) (up seen st sq hp nx pc own ic io it ms pre box : Nat → Int32) (J : od_J N R z up st nx pc pre ms) (B : od_Bx ic io it box) : od_R (nI N, nI R, mx, nI z, k1, k2, k3, k4, k5, k6, k7, k8, up, seen, st, sq, hp, nx, pc, own, ic, io, it, ms) (nI N, nI R, mx, nI z, up, own, seen, st, sq, hp, nx, pre, box, ms) := fun _ h => h N R z mx k1 k2 k3 k4 k5 k6 k7 k8 up seen st sq hp nx pc own ic io it ms pre box J B
def od_O (WX : (Int32 → SX → Prop) → Prop) (WY : (Int32 → SY → Prop) → Prop) : Prop := ∀ Q : Prop, (∀ (r : Int32) (N R z : Nat) (mx k1 k2 k3 k4 k5 k6 k7 k8 : Int32) (up seen st sq hp nx pc own ic io it ms pre box : Nat → Int32), od_J N R z up st nx pc pre ms → od_Bx ic io it box → (∀ P : Int32 → SX → Prop, P r (nI N, nI R, mx, nI z, k1, k2, k3, k4, k5, k6, k7, k8, up, seen, st, sq, hp, nx, pc, own, ic, io, it, ms) → WX P) → (∀ P : Int32 → SY → Prop, P r (nI N, nI R, mx, nI z, up, own, seen, st, sq, hp, nx, pre, box, ms) → WY P) → Q) → Q
theorem od_Oi {WX : (Int32 → SX → Prop) → Prop} {WY : (Int32 → SY → Prop) → Prop} (r : Int32) (N R z : Nat) (mx k1 k2 k3 k4 k5 k6 k7 k8 : Int32) (up seen st sq hp nx pc own ic io it ms pre box : Nat → Int32) (J : od_J N R z up st nx pc pre ms) (B : od_Bx ic io it box) (hX : ∀ P : Int32 → SX → Prop, P r (nI N, nI R, mx, nI z, k1, k2, k3, k4, k5, k6, k7, k8, up, seen, st, sq, hp, nx, pc, own, ic, io, it, ms) → WX P) (hY : ∀ P : Int32 → SY → Prop, P r (nI N, nI R, mx, nI z, up, own, seen, st, sq, hp, nx, pre, box, ms) → WY P) : od_O WX WY := fun _ h => h r N R z mx k1 k2 k3 k4 k5 k6 k7 k8 up seen st sq hp nx pc own ic io it ms pre box J B hX hY
theorem od_fin {WX : (Int32 → SX → Prop) → Prop} {WY : (Int32 → SY → Prop) → Prop} (h : od_O WX WY) : WX (fun r u' => WY (fun r' v' => r' = r ∧ od_R u' v')) := by
  refine h _ ?_
  intro r N R z mx k1 k2 k3 k4 k5 k6 k7 k8 up seen st sq hp nx pc own ic io it ms pre box J B hX hY
  exact hX _ (hY _ ⟨rfl, od_Ri N R z mx k1 k2 k3 k4 k5 k6 k7 k8 up seen st sq hp nx pc own ic io it ms pre box J B⟩)
/-- a step ahead on both sides -/
theorem od_Om {WX WX' : (Int32 → SX → Prop) → Prop} {WY WY' : (Int32 → SY → Prop) → Prop} (h : od_O WX WY) (fX : ∀ P, WX P → WX' P) (fY : ∀ P, WY P → WY' P) : od_O WX' WY' := by
  refine h _ ?_
  intro r N R z mx k1 k2 k3 k4 k5 k6 k7 k8 up seen st sq hp nx pc own ic io it ms pre box J B hX hY
  exact od_Oi r N R z mx k1 k2 k3 k4 k5 k6 k7 k8 up seen st sq hp nx pc own ic io it ms pre box J B (fun P hP => fX P (hX P hP)) (fun P hP => fY P (hY P hP))
/-! the reply's last step -/
theorem od_an3 (N R z : Nat) (mx k1 k2 k3 k4 k5 k6 k7 k8 : Int32) (up seen st sq hp nx pc own ic io it ms pre box : Nat → Int32) (J : od_J N R z up st nx pc pre ms) (B : od_Bx ic io it box) {i o d n : Nat} (hi : i < N) (ho : o < N) (hd : d < N) (hn : n < N) (s h : Int32) : od_O (fun P => wX_answer_103 P (nI i) (nI o) (nI d) s h (nI n) (nI N) (nI R) mx (nI z) k1 k2 k3 k4 k5 k6 k7 k8 up seen st sq hp nx pc own ic io it ms) (fun P => wY_answer_114 P (nI i) (nI o) (nI d) s h (nI n) (nI N) (nI R) mx (nI z) up own seen st sq hp nx pre box ms) := by
  have hz := od_Jz J
  by_cases hR : z < R
  · refine od_Oi 3 N R (z + 1) mx k1 k2 k3 k4 k5 k6 k7 k8 up seen st sq hp nx pc own ic io it (od_w ms (8 * z) 3 (nI i) (nI n) (nI o) (nI d) s h 0) pre box (od_Jp J hR hi hn ho hd _ _ _ _) B (fun P hP => ?_) (fun P hP => ?_)
    · show wX_answer_103 P _ _ _ _ _ _ (nI N) (nI R) mx (nI z) k1 k2 k3 k4 k5 k6 k7 k8 up seen st sq hp nx pc own ic io it ms
      unfold wX_answer_103
      refine od_xo1 hR (by omega) ?_
      exact od_xf1 (by omega) hP
    · show wY_answer_114 P _ _ _ _ _ _ (nI N) (nI R) mx (nI z) up own seen st sq hp nx pre box ms
      unfold wY_answer_114
      exact od_yp1 hR (by omega) hP
  · refine od_Oi 3 N R z mx k1 k2 k3 k4 k5 k6 k7 k8 up seen st sq hp nx pc own ic io it ms pre box J B (fun P hP => ?_) (fun P hP => ?_)
    · show wX_answer_103 P _ _ _ _ _ _ (nI N) (nI R) mx (nI z) k1 k2 k3 k4 k5 k6 k7 k8 up seen st sq hp nx pc own ic io it ms
      unfold wX_answer_103
      refine od_xo0 hR (by omega) ?_
      exact od_xf0 hP
    · show wY_answer_114 P _ _ _ _ _ _ (nI N) (nI R) mx (nI z) up own seen st sq hp nx pre box ms
      unfold wY_answer_114
      exact od_yp0 hR (by omega) hP
theorem od_ans (N R z : Nat) (mx k1 k2 k3 k4 k5 k6 k7 k8 : Int32) (up seen st sq hp nx pc own ic io it ms pre box : Nat → Int32) (J : od_J N R z up st nx pc pre ms) (B : od_Bx ic io it box) {i o d : Nat} (hi : i < N) (ho : o < N) (hd : d < N) (hv : i ≠ d → st (8 * i + d) = 2) (s h : Int32) : od_O (fun P => wpX_answer P (nI N, nI R, mx, nI z, k1, k2, k3, k4, k5, k6, k7, k8, up, seen, st, sq, hp, nx, pc, own, ic, io, it, ms) (nI i) (nI o) (nI d) s h) (fun P => wpY_answer P (nI N, nI R, mx, nI z, up, own, seen, st, sq, hp, nx, pre, box, ms) (nI i) (nI o) (nI d) s h) := by
  have hz := od_Jz J
  have c : (nI (8 * i + o)).toNatClampNeg = 8 * i + o := nI_clamp (by omega)
  have v : vp_in (nI (8 * i + o)) 64 := vp_in_nI (by omega) (by omega)
  by_cases h2 : st (8 * i + o) = 2
  · obtain ⟨n, hn, en⟩ := od_Jnx J hi ho h2
    have cl : (nI (8 * i + n)).toNatClampNeg = 8 * i + n := nI_clamp (by omega)
    have vl : vp_in (nI (8 * i + n)) 64 := vp_in_nI (by omega) (by omega)
    by_cases hu : up (8 * i + n) = 0
    · obtain ⟨q, z', st', pc', pre', ms', J', _, hX, hY⟩ := od_brk N R z mx k1 k2 k3 k4 k5 k6 k7 k8 up seen st sq hp nx pc own ic io it ms pre box J hi (nI n)
      refine od_Oi (-3) N R z' mx k1 k2 k3 k4 k5 k6 k7 k8 up seen st' sq hp nx pc' own ic io it ms' pre' box J' B (fun P hP => ?_) (fun P hP => ?_)
      · show wpX_answer P (nI N, nI R, mx, nI z, k1, k2, k3, k4, k5, k6, k7, k8, up, seen, st, sq, hp, nx, pc, own, ic, io, it, ms) _ _ _ _ _
        unfold wpX_answer
        refine od_xs ?_
        rw [c]
        refine ⟨v, br_t h2 ⟨v, nm_r en ?_⟩⟩
        refine od_xs ?_
        rw [cl]
        refine ⟨vl, br_t hu ?_⟩
        exact hX _ hP
      · show wpY_answer P (nI N, nI R, mx, nI z, up, own, seen, st, sq, hp, nx, pre, box, ms) _ _ _ _ _
        unfold wpY_answer
        rw [od_ye i o, c]
        refine ⟨v, br_t h2 ⟨v, nm_r en ?_⟩⟩
        refine od_yk (by omega) J.2.1 hi hn (fun _ => br_t rfl ?_) (fun k => absurd hu k)
        exact hY _ hP
    · by_cases e : i = d
      · subst e
        refine od_Om (od_an3 N R z mx k1 k2 k3 k4 k5 k6 k7 k8 up seen st sq hp nx pc own ic io it ms pre box J B hi ho hd hn s h) (fun P hP => ?_) (fun P hP => ?_)
        · unfold wpX_answer
          refine od_xs ?_
          rw [c]
          refine ⟨v, br_t h2 ⟨v, nm_r en ?_⟩⟩
          refine od_xs ?_
          rw [cl]
          exact ⟨vl, br_f hu (br_t rfl hP)⟩
        · unfold wpY_answer
          rw [od_ye i o, c]
          refine ⟨v, br_t h2 ⟨v, nm_r en ?_⟩⟩
          refine od_yk (by omega) J.2.1 hi hn (fun k => absurd k hu) (fun _ => br_f (by decide) ?_)
          exact br_t rfl hP
      · obtain ⟨m, hm, em⟩ := od_Jnx J hi hd (hv e)
        have cf : (nI (8 * i + d)).toNatClampNeg = 8 * i + d := nI_clamp (by omega)
        have vf : vp_in (nI (8 * i + d)) 64 := vp_in_nI (by omega) (by omega)
        have c1 : (nI (8 * (8 * i + d) + n)).toNatClampNeg = 8 * (8 * i + d) + n := nI_clamp (by omega)
        have v1 : vp_in (nI (8 * (8 * i + d) + n)) 512 := vp_in_nI (by omega) (by omega)
        have c3 : (nI (8 * (8 * i + o) + m)).toNatClampNeg = 8 * (8 * i + o) + m := nI_clamp (by omega)
        have v3 : vp_in (nI (8 * (8 * i + o) + m)) 512 := vp_in_nI (by omega) (by omega)
        have hne : ¬ nI i = nI d := od_nn (by omega) (by omega) e
        have J1 := od_Jor J (e := 8 * i + d) hn
        have J2 := od_Jor J1 (e := 8 * i + o) hm
        refine od_Om (od_an3 N R z mx k1 k2 k3 k4 k5 k6 k7 k8 up seen st sq hp nx (upd (upd pc (8 * i + d) (pc (8 * i + d) ||| ((1 : Int32) <<< (nI n &&& 31)))) (8 * i + o) (upd pc (8 * i + d) (pc (8 * i + d) ||| ((1 : Int32) <<< (nI n &&& 31))) (8 * i + o) ||| ((1 : Int32) <<< (nI m &&& 31)))) own ic io it ms (upd (upd pre (8 * (8 * i + d) + n) 1) (8 * (8 * i + o) + m) 1) box J2 B hi ho hd hn s h) (fun P hP => ?_) (fun P hP => ?_)
        · unfold wpX_answer
          refine od_xs ?_
          rw [c]
          refine ⟨v, br_t h2 ⟨v, nm_r en ?_⟩⟩
          refine od_xs ?_
          rw [cl]
          refine ⟨vl, br_f hu (br_f hne ?_)⟩
          refine od_xs ?_
          rw [cf, em]
          exact ⟨vf, vf, nm_e ⟨v, vf, v, nm_e hP⟩⟩
        · unfold wpY_answer
          rw [od_ye i o, c]
          refine ⟨v, br_t h2 ⟨v, nm_r en ?_⟩⟩
          refine od_yk (by omega) J.2.1 hi hn (fun k => absurd k hu) (fun _ => br_f (by decide) ?_)
          refine br_f hne ?_
          rw [od_yi, c1, od_n1, od_ye i d, cf]
          refine ⟨v1, nm_e ⟨vf, nm_r em ?_⟩⟩
          refine od_yg hm (by omega) (br_f (by decide) ?_)
          rw [od_yi, c3]
          exact ⟨v3, nm_e hP⟩
  · refine od_Oi (-2) N R z mx k1 k2 k3 k4 k5 k6 k7 k8 up seen st sq hp nx pc own ic io it ms pre box J B (fun P hP => ?_) (fun P hP => ?_)
    · show wpX_answer P (nI N, nI R, mx, nI z, k1, k2, k3, k4, k5, k6, k7, k8, up, seen, st, sq, hp, nx, pc, own, ic, io, it, ms) _ _ _ _ _
      unfold wpX_answer
      refine od_xs ?_
      rw [c]
      exact ⟨v, br_f h2 hP⟩
    · show wpY_answer P (nI N, nI R, mx, nI z, up, own, seen, st, sq, hp, nx, pre, box, ms) _ _ _ _ _
      unfold wpY_answer
      rw [od_ye i o, c]
      exact ⟨v, br_f h2 hP⟩
end
section
/-! flood against the reference's two loops -/
theorem od_fl1 {i d : Nat} (bf w kd : Int32) : ∀ (m p : Nat) (N R z : Nat) (mx k1 k2 k3 k4 k5 k6 k7 k8 : Int32) (up seen st sq hp nx pc own ic io it ms pre box : Nat → Int32), i < N → d < N → p + m = N → od_J N R z up st nx pc pre ms → ∃ (z' : Nat) (ms' : Nat → Int32), od_J N R z' up st nx pc pre ms' ∧ (∀ P : Int32 → SX → Prop, P (nI z' - bf) (nI N, nI R, mx, nI z', kd, k2, k3, nI i, nI d, own i, 0, w, up, seen, st, sq, hp, nx, pc, own, ic, io, it, ms') → wX_flood_8 P (nI i) (-1) bf (m + 1) (nI p) (nI N) (nI R) mx (nI z) kd k2 k3 (nI i) (nI d) (own i) 0 w up seen st sq hp nx pc own ic io it ms) ∧ (∀ P : Int32 → SY → Prop, P (nI z' - bf) (nI N, nI R, mx, nI z', up, own, seen, st, sq, hp, nx, pre, box, ms') → wY_discover_94 P (nI i) (nI d) bf w kd (m + 1) (nI p) (nI N) (nI R) mx (nI z) up own seen st sq hp nx pre box ms) := by
  intro m
  induction m with
  | zero =>
    intro p N R z mx k1 k2 k3 k4 k5 k6 k7 k8 up seen st sq hp nx pc own ic io it ms pre box hi hd hpm J
    have hz := od_Jz J
    exact ⟨z, ms, J, fun P hP => br_t (nI_le (by omega) (by omega)) hP, fun P hP => br_t (nI_le (by omega) (by omega)) hP⟩
  | succ m ih =>
    intro p N R z mx k1 k2 k3 k4 k5 k6 k7 k8 up seen st sq hp nx pc own ic io it ms pre box hi hd hpm J
    have hz := od_Jz J
    have c : (nI (8 * i + p)).toNatClampNeg = 8 * i + p := nI_clamp (by omega)
    have v : vp_in (nI (8 * i + p)) 64 := vp_in_nI (by omega) (by omega)
    have ci : (nI i).toNatClampNeg = i := nI_clamp (by omega)
    have vi : vp_in (nI i) 8 := vp_in_nI (by omega) (by omega)
    have hN : ¬ nI N ≤ nI p := nI_ge (by omega) (by omega)
    have hm : ¬ nI p = -1 := od_nm1 (by omega)
    by_cases hu : up (8 * i + p) = 0
    · obtain ⟨z', ms', J', hX, hY⟩ := ih (p + 1) N R z mx k1 k2 k3 k4 k5 k6 k7 k8 up seen st sq hp nx pc own ic io it ms pre box hi hd (by omega) J
      refine ⟨z', ms', J', fun P hP => br_f hN (br_f hm ?_), fun P hP => br_f hN ?_⟩
      · refine od_xs ?_
        rw [c]
        exact ⟨v, br_t hu (nm_r (nI_1 p) (hX P hP))⟩
      · refine od_yk (by omega) J.2.1 hi (by omega) (fun _ => br_t rfl ?_) (fun k => absurd hu k)
        exact nm_r (nI_1 p) (hY P hP)
    · by_cases hR : z < R
      · obtain ⟨z', ms', J', hX, hY⟩ := ih (p + 1) N R (z + 1) mx k1 k2 k3 k4 k5 k6 k7 k8 up seen st sq hp nx pc own ic io it (od_w ms (8 * z) kd (nI i) (nI p) (nI i) (nI d) (own i) 0 w) pre box hi hd (by omega) (od_Jp J hR hi (by omega) hi hd _ _ _ _)
        refine ⟨z', ms', J', fun P hP => br_f hN (br_f hm ?_), fun P hP => br_f hN ?_⟩
        · refine od_xs ?_
          rw [c]
          refine ⟨v, br_f hu ?_⟩
          refine od_xo1 hR (by omega) ?_
          refine od_xf1 (by omega) ?_
          exact nm_r (nI_1 p) (hX P hP)
        · refine od_yk (by omega) J.2.1 hi (by omega) (fun k => absurd k hu) (fun _ => br_f (by decide) ?_)
          rw [ci]
          refine ⟨vi, ?_⟩
          refine od_yp1 hR (by omega) ?_
          refine br_f (by decide) ?_
          refine od_yx8 (by omega) ?_
          exact nm_r (nI_1 p) (hY P hP)
      · obtain ⟨z', ms', J', hX, hY⟩ := ih (p + 1) N R z mx k1 k2 k3 k4 k5 k6 k7 k8 up seen st sq hp nx pc own ic io it ms pre box hi hd (by omega) J
        refine ⟨z', ms', J', fun P hP => br_f hN (br_f hm ?_), fun P hP => br_f hN ?_⟩
        · refine od_xs ?_
          rw [c]
          refine ⟨v, br_f hu ?_⟩
          refine od_xo0 hR (by omega) ?_
          refine od_xf0 ?_
          exact nm_r (nI_1 p) (hX P hP)
        · refine od_yk (by omega) J.2.1 hi (by omega) (fun k => absurd k hu) (fun _ => br_f (by decide) ?_)
          rw [ci]
          refine ⟨vi, ?_⟩
          refine od_yp0 hR (by omega) ?_
          refine br_t rfl ?_
          exact nm_r (nI_1 p) (hY P hP)
theorem od_fl2 {i f o d : Nat} (kd s h w : Int32) : ∀ (m p : Nat) (N R z : Nat) (mx k1 k2 k3 k4 k5 k6 k7 k8 : Int32) (up seen st sq hp nx pc own ic io it ms pre box : Nat → Int32), i < N → f < N → o < N → d < N → p + m = N → od_J N R z up st nx pc pre ms → ∃ (z' : Nat) (ms' : Nat → Int32), od_J N R z' up st nx pc pre ms' ∧ (∀ (P : Int32 → SX → Prop) (bf : Int32), P (nI z' - bf) (nI N, nI R, mx, nI z', kd, k2, k3, nI o, nI d, s, h + 1, w, up, seen, st, sq, hp, nx, pc, own, ic, io, it, ms') → wX_flood_8 P (nI i) (nI f) bf (m + 1) (nI p) (nI N) (nI R) mx (nI z) kd k2 k3 (nI o) (nI d) s (h + 1) w up seen st sq hp nx pc own ic io it ms) ∧ (∀ P : Int32 → SY → Prop, P 4 (nI N, nI R, mx, nI z', up, own, seen, st, sq, hp, nx, pre, box, ms') → wY_deliver_375 P kd (nI f) (nI i) (nI o) (nI d) s h w (m + 1) (nI p) (nI N) (nI R) mx (nI z) up own seen st sq hp nx pre box ms) := by
  intro m
  induction m with
  | zero =>
    intro p N R z mx k1 k2 k3 k4 k5 k6 k7 k8 up seen st sq hp nx pc own ic io it ms pre box hi hf ho hd hpm J
    have hz := od_Jz J
    exact ⟨z, ms, J, fun P _ hP => br_t (nI_le (by omega) (by omega)) hP, fun P hP => br_t (nI_le (by omega) (by omega)) hP⟩
  | succ m ih =>
    intro p N R z mx k1 k2 k3 k4 k5 k6 k7 k8 up seen st sq hp nx pc own ic io it ms pre box hi hf ho hd hpm J
    have hz := od_Jz J
    have c : (nI (8 * i + p)).toNatClampNeg = 8 * i + p := nI_clamp (by omega)
    have v : vp_in (nI (8 * i + p)) 64 := vp_in_nI (by omega) (by omega)
    have hN : ¬ nI N ≤ nI p := nI_ge (by omega) (by omega)
    by_cases e : p = f
    · subst e
      obtain ⟨z', ms', J', hX, hY⟩ := ih (p + 1) N R z mx k1 k2 k3 k4 k5 k6 k7 k8 up seen st sq hp nx pc own ic io it ms pre box hi hf ho hd (by omega) J
      refine ⟨z', ms', J', fun P bf hP => br_f hN (br_t rfl ?_), fun P hP => br_f hN (br_t rfl ?_)⟩
      · exact nm_r (nI_1 p) (hX P bf hP)
      · exact nm_r (nI_1 p) (hY P hP)
    · have hm : ¬ nI p = nI f := od_nn (by omega) (by omega) e
      by_cases hu : up (8 * i + p) = 0
      · obtain ⟨z', ms', J', hX, hY⟩ := ih (p + 1) N R z mx k1 k2 k3 k4 k5 k6 k7 k8 up seen st sq hp nx pc own ic io it ms pre box hi hf ho hd (by omega) J
        refine ⟨z', ms', J', fun P bf hP => br_f hN (br_f hm ?_), fun P hP => br_f hN (br_f hm ?_)⟩
        · refine od_xs ?_
          rw [c]
          exact ⟨v, br_t hu (nm_r (nI_1 p) (hX P bf hP))⟩
        · refine od_yk (by omega) J.2.1 hi (by omega) (fun _ => br_t rfl ?_) (fun k => absurd hu k)
          exact nm_r (nI_1 p) (hY P hP)
      · by_cases hR : z < R
        · obtain ⟨z', ms', J', hX, hY⟩ := ih (p + 1) N R (z + 1) mx k1 k2 k3 k4 k5 k6 k7 k8 up seen st sq hp nx pc own ic io it (od_w ms (8 * z) kd (nI i) (nI p) (nI o) (nI d) s (h + 1) w) pre box hi hf ho hd (by omega) (od_Jp J hR hi (by omega) ho hd _ _ _ _)
          refine ⟨z', ms', J', fun P bf hP => br_f hN (br_f hm ?_), fun P hP => br_f hN (br_f hm ?_)⟩
          · refine od_xs ?_
            rw [c]
            refine ⟨v, br_f hu ?_⟩
            refine od_xo1 hR (by omega) ?_
            refine od_xf1 (by omega) ?_
            exact nm_r (nI_1 p) (hX P bf hP)
          · refine od_yk (by omega) J.2.1 hi (by omega) (fun k => absurd k hu) (fun _ => br_f (by decide) ?_)
            refine od_yp1 hR (by omega) ?_
            refine br_f (by decide) ?_
            refine od_yx8 (by omega) ?_
            exact nm_r (nI_1 p) (hY P hP)
        · obtain ⟨z', ms', J', hX, hY⟩ := ih (p + 1) N R z mx k1 k2 k3 k4 k5 k6 k7 k8 up seen st sq hp nx pc own ic io it ms pre box hi hf ho hd (by omega) J
          refine ⟨z', ms', J', fun P bf hP => br_f hN (br_f hm ?_), fun P hP => br_f hN (br_f hm ?_)⟩
          · refine od_xs ?_
            rw [c]
            refine ⟨v, br_f hu ?_⟩
            refine od_xo0 hR (by omega) ?_
            refine od_xf0 ?_
            exact nm_r (nI_1 p) (hX P bf hP)
          · refine od_yk (by omega) J.2.1 hi (by omega) (fun k => absurd k hu) (fun _ => br_f (by decide) ?_)
            refine od_yp0 hR (by omega) ?_
            refine br_t rfl ?_
            exact nm_r (nI_1 p) (hY P hP)
end
section
/-! the pool: taking out, copying -/
section od7
variable {N R z : Nat} {mx k1 k2 k3 k4 k5 k6 k7 k8 : Int32} {up seen st sq hp nx pc own ic io it ms pre box : Nat → Int32}
theorem od_xr15 {P : SX → Prop} {a : Nat} (hz : z ≤ 32) (h0 : 0 < z) (h : P (nI N, nI R, mx, nI (z - 1), k1, k2, k3, k4, k5, k6, k7, k8, up, seen, st, sq, hp, nx, pc, own, ic, io, it, od_sh ms a (8 * (z - 1)))) : ∀ m c : Nat, a ≤ c → c + m = 8 * (z - 1) → wX_removeAt_15 P (nI (8 * (z - 1))) (nI N) (nI R) mx (nI z) k1 k2 k3 k4 k5 k6 k7 k8 (m + 1) (nI c) up seen st sq hp nx pc own ic io it (od_sh ms a c) := by
  intro m
  induction m with
  | zero =>
    intro c ha hc
    have e : c = 8 * (z - 1) := by omega
    subst e
    refine br_t (nI_le (by omega) (by omega)) (nm_r (e' := nI (z - 1)) ?_ h)
    exact pk_sub (b := 1) (by omega)
  | succ m ih =>
    intro c ha hc
    have c1 : (nI c).toNatClampNeg = c := nI_clamp (by omega)
    have c8 : (nI (c + 8)).toNatClampNeg = c + 8 := nI_clamp (by omega)
    refine br_f (nI_ge (by omega) (by omega)) ?_
    rw [od_p8, c1, c8, od_sh8, od_sh1 ms ha]
    exact ⟨vp_in_nI (by omega) (by omega), vp_in_nI (by omega) (by omega), nm_e (nm_r (nI_1 c) (ih (c + 1) (by omega) (by omega)))⟩
theorem od_xr {P : SX → Prop} {k : Nat} (hz : z ≤ 32) (hk : k < z) (h : P (nI N, nI R, mx, nI (z - 1), k1, k2, k3, k4, k5, k6, k7, k8, up, seen, st, sq, hp, nx, pc, own, ic, io, it, od_sh ms (8 * k) (8 * (z - 1)))) : wpX_removeAt P (nI N, nI R, mx, nI z, k1, k2, k3, k4, k5, k6, k7, k8, up, seen, st, sq, hp, nx, pc, own, ic, io, it, ms) (nI k) := by
  have e : (nI z - 1) * 8 = nI (8 * (z - 1)) := by
    rw [← od_m8]
    exact congrArg (· * 8) (pk_sub (a := z) (b := 1) (by omega))
  unfold wpX_removeAt
  refine nm_r e (nm_r (od_m8 k) ⟨8 * (z - 1) - 8 * k + 1, ?_⟩)
  have q := od_xr15 (P := P) (a := 8 * k) hz (by omega) h (8 * (z - 1) - 8 * k) (8 * k) (by omega) (by omega)
  rw [od_sh0] at q
  exact q
theorem od_yd19 {P : Int32 → SY → Prop} {a : Nat} (hz : z ≤ 32) (h0 : 0 < z) (h : P 0 (nI N, nI R, mx, nI (z - 1), up, own, seen, st, sq, hp, nx, pre, box, od_sh ms a (8 * (z - 1)))) : ∀ m c : Nat, a ≤ c → c + m = 8 * (z - 1) → wY_drop_19 P (nI N) (nI R) mx (nI z) (m + 1) (nI c) up own seen st sq hp nx pre box (od_sh ms a c) := by
  have e1 : nI z - 1 = nI (z - 1) := pk_sub (b := 1) (by omega)
  intro m
  induction m with
  | zero =>
    intro c ha hc
    have e : c = 8 * (z - 1) := by omega
    subst e
    refine br_t ?_ (nm_r e1 h)
    rw [e1, od_8m]
    exact nI_le (by omega) (by omega)
  | succ m ih =>
    intro c ha hc
    have c1 : (nI c).toNatClampNeg = c := nI_clamp (by omega)
    have c8 : (nI (c + 8)).toNatClampNeg = c + 8 := nI_clamp (by omega)
    refine br_f ?_ ?_
    · rw [e1, od_8m]; exact nI_ge (by omega) (by omega)
    rw [od_p8, c1, c8, od_sh8, od_sh1 ms ha]
    exact ⟨vp_in_nI (by omega) (by omega), vp_in_nI (by omega) (by omega), nm_e (nm_r (nI_1 c) (ih (c + 1) (by omega) (by omega)))⟩
theorem od_yd {P : Int32 → SY → Prop} {k : Nat} (hz : z ≤ 32) (hk : k < z) (h : P 0 (nI N, nI R, mx, nI (z - 1), up, own, seen, st, sq, hp, nx, pre, box, od_sh ms (8 * k) (8 * (z - 1)))) : wpY_drop P (nI N, nI R, mx, nI z, up, own, seen, st, sq, hp, nx, pre, box, ms) (nI k) := by
  unfold wpY_drop
  refine br_f (nI_pos (by omega)) (br_t (nI_lt hk (by omega)) (nm_r (od_8m k) ⟨8 * (z - 1) - 8 * k + 1, ?_⟩))
  have q := od_yd19 (P := P) (a := 8 * k) hz (by omega) h (8 * (z - 1) - 8 * k) (8 * k) (by omega) (by omega)
  rw [od_sh0] at q
  exact q
theorem od_xt {P : SX → Prop} {k : Nat} {q1 q2 q3 q4 q5 q6 q7 q8 : Int32} (hz : z ≤ 32) (hk : k < z) (e1 : ms (8 * k) = q1) (e2 : ms (8 * k + 1) = q2) (e3 : ms (8 * k + 2) = q3) (e4 : ms (8 * k + 3) = q4) (e5 : ms (8 * k + 4) = q5) (e6 : ms (8 * k + 5) = q6) (e7 : ms (8 * k + 6) = q7) (e8 : ms (8 * k + 7) = q8) (h : P (nI N, nI R, mx, nI (z - 1), q1, q2, q3, q4, q5, q6, q7, q8, up, seen, st, sq, hp, nx, pc, own, ic, io, it, od_sh ms (8 * k) (8 * (z - 1)))) : wpX_take P (nI N, nI R, mx, nI z, k1, k2, k3, k4, k5, k6, k7, k8, up, seen, st, sq, hp, nx, pc, own, ic, io, it, ms) (nI k) := by
  have c0 : (nI (8 * k)).toNatClampNeg = 8 * k := nI_clamp (by omega)
  have c1 : (nI (8 * k + 1)).toNatClampNeg = 8 * k + 1 := nI_clamp (by omega)
  have c2 : (nI (8 * k + 2)).toNatClampNeg = 8 * k + 2 := nI_clamp (by omega)
  have c3 : (nI (8 * k + 3)).toNatClampNeg = 8 * k + 3 := nI_clamp (by omega)
  have c4 : (nI (8 * k + 4)).toNatClampNeg = 8 * k + 4 := nI_clamp (by omega)
  have c5 : (nI (8 * k + 5)).toNatClampNeg = 8 * k + 5 := nI_clamp (by omega)
  have c6 : (nI (8 * k + 6)).toNatClampNeg = 8 * k + 6 := nI_clamp (by omega)
  have c7 : (nI (8 * k + 7)).toNatClampNeg = 8 * k + 7 := nI_clamp (by omega)
  unfold wpX_take
  refine nm_r (od_m8 k) ?_
  rw [od_p0, nI_1 (8 * k), od_p2, od_p3, od_p4, od_p5, od_p6, od_p7, c0, c1, c2, c3, c4, c5, c6, c7]
  refine ⟨vp_in_nI (by omega) (by omega), nm_r e1 ⟨vp_in_nI (by omega) (by omega), nm_r e2 ⟨vp_in_nI (by omega) (by omega), nm_r e3 ⟨vp_in_nI (by omega) (by omega), nm_r e4 ⟨vp_in_nI (by omega) (by omega), nm_r e5 ⟨vp_in_nI (by omega) (by omega), nm_r e6 ⟨vp_in_nI (by omega) (by omega), nm_r e7 ⟨vp_in_nI (by omega) (by omega), nm_r e8 ?_⟩⟩⟩⟩⟩⟩⟩⟩
  refine od_xr hz hk ?_
  exact h
theorem od_xc40 {P : Int32 → SX → Prop} {k : Nat} (hz : z < 32) (hk : k < z) (h : P 0 (nI N, nI R, mx, nI (z + 1), k1, k2, k3, k4, k5, k6, k7, k8, up, seen, st, sq, hp, nx, pc, own, ic, io, it, od_cp ms k z 8)) : ∀ m f : Nat, f + m = 8 → wX_copy_40 P (nI (8 * k)) (nI (8 * z)) (nI N) (nI R) mx (nI z) k1 k2 k3 k4 k5 k6 k7 k8 (m + 1) (nI f) up seen st sq hp nx pc own ic io it (od_cp ms k z f) := by
  intro m
  induction m with
  | zero =>
    intro f hf
    have e : f = 8 := by omega
    subst e
    exact br_t (nI_le (a := 8) (b := 8) (by omega) (by omega)) (nm_r (nI_1 z) h)
  | succ m ih =>
    intro f hf
    have c1 : (nI (8 * k + f)).toNatClampNeg = 8 * k + f := nI_clamp (by omega)
    have c2 : (nI (8 * z + f)).toNatClampNeg = 8 * z + f := nI_clamp (by omega)
    refine br_f (nI_ge (a := f) (b := 8) (by omega) (by omega)) ?_
    rw [nI_add, nI_add, c1, c2, od_cpr ms hk (by omega), od_cp1]
    exact ⟨vp_in_nI (by omega) (by omega), vp_in_nI (by omega) (by omega), nm_e (nm_r (nI_1 f) (ih (f + 1) (by omega)))⟩
theorem od_yc30 {P : Int32 → SY → Prop} {k : Nat} (hz : z < 32) (hk : k < z) (h : P 0 (nI N, nI R, mx, nI (z + 1), up, own, seen, st, sq, hp, nx, pre, box, od_cp ms k z 8)) : ∀ m f : Nat, f + m = 8 → wY_copy_30 P (nI k) (nI N) (nI R) mx (nI z) (m + 1) (nI f) up own seen st sq hp nx pre box (od_cp ms k z f) := by
  intro m
  induction m with
  | zero =>
    intro f hf
    have e : f = 8 := by omega
    subst e
    exact br_t (nI_le (a := 8) (b := 8) (by omega) (by omega)) (nm_r (nI_1 z) h)
  | succ m ih =>
    intro f hf
    have c1 : (nI (8 * k + f)).toNatClampNeg = 8 * k + f := nI_clamp (by omega)
    have c2 : (nI (8 * z + f)).toNatClampNeg = 8 * z + f := nI_clamp (by omega)
    refine br_f (nI_ge (a := f) (b := 8) (by omega) (by omega)) ?_
    rw [od_ye k f, od_ye z f, c1, c2, od_cpr ms hk (by omega), od_cp1]
    exact ⟨vp_in_nI (by omega) (by omega), vp_in_nI (by omega) (by omega), nm_e (nm_r (nI_1 f) (ih (f + 1) (by omega)))⟩
/-! a good position -/
theorem od_xgk {P : Int32 → Prop} {k : Nat} (hz : z ≤ 32) (hk : k < z) (h : P 1) : wpX_goodPosition P (nI N, nI R, mx, nI z, k1, k2, k3, k4, k5, k6, k7, k8, up, seen, st, sq, hp, nx, pc, own, ic, io, it, ms) (nI k) :=
  br_f (nI_pos (by omega)) (br_f (nI_ge hk (by omega)) h)
theorem od_xgkb {P : Int32 → Prop} {a : Int32} (ha : a < 0 ∨ nI z ≤ a) (h : P 0) : wpX_goodPosition P (nI N, nI R, mx, nI z, k1, k2, k3, k4, k5, k6, k7, k8, up, seen, st, sq, hp, nx, pc, own, ic, io, it, ms) a := by
  by_cases c : a < 0
  · exact br_t c h
  · exact br_f c (br_t (ha.resolve_left c) h)
theorem od_pos (hz : z ≤ 32) (a : Int32) : (a < 0 ∨ nI z ≤ a) ∨ ∃ i, i < z ∧ a = nI i := by
  rcases pk_ix a (n := z) (by omega) with h | h | ⟨i, hi, rfl⟩
  · exact Or.inl (Or.inl h)
  · exact Or.inl (Or.inr h)
  · exact Or.inr ⟨i, hi, rfl⟩
/-- the reference's own test: k < 0, then k < size -/
theorem od_ykb {A B C : Prop} {a : Int32} (ha : a < 0 ∨ nI z ≤ a) (h : A) (h' : C) : (a < 0 → A) ∧ (¬ a < 0 → (a < nI z → B) ∧ (¬ a < nI z → C)) := by
  by_cases c : a < 0
  · exact br_t c h
  · exact br_f c (br_f (Int32.not_lt.mpr (ha.resolve_left c)) h')
end od7
end
section
/-! the four handlers -/
theorem od_rep (N R z : Nat) (mx k1 k2 k3 k4 k5 k6 k7 k8 : Int32) (up seen st sq hp nx pc own ic io it ms pre box : Nat → Int32) (J : od_J N R z up st nx pc pre ms) (B : od_Bx ic io it box) {f t o g : Nat} (hf : f < N) (ht : t < N) (ho : o < N) (hg : g < N) : od_O (fun P => wpX_onReply P (nI N, nI R, mx, nI z, k1, nI f, nI t, nI o, nI g, k6, k7, k8, up, seen, st, sq, hp, nx, pc, own, ic, io, it, ms)) (fun P => wpY_takeReply P (nI N, nI R, mx, nI z, up, own, seen, st, sq, hp, nx, pre, box, ms) (nI t) (nI f) (nI o) (nI g) k6 k7) := by
  have hz := od_Jz J
  have c : (nI (8 * t + g)).toNatClampNeg = 8 * t + g := nI_clamp (by omega)
  have v : vp_in (nI (8 * t + g)) 64 := vp_in_nI (by omega) (by omega)
  obtain ⟨st', sq', hp', nx', J', hX, hY⟩ := od_learn N R z mx k1 (nI f) (nI t) (nI o) (nI g) k6 k7 k8 up seen st sq hp nx pc own ic io it ms pre box J ht hg hf k6 (k7 + 1)
  by_cases e : t = o
  · subst e
    refine od_Oi 5 N R z mx k1 (nI f) (nI t) (nI t) (nI g) k6 k7 k8 up seen st' sq' hp' nx' pc own ic io it ms pre box J' B (fun P hP => ?_) (fun P hP => ?_)
    · show wpX_onReply P _
      unfold wpX_onReply
      refine hX _ ?_
      exact br_t rfl hP
    · show wpY_takeReply P (nI N, nI R, mx, nI z, up, own, seen, st, sq, hp, nx, pre, box, ms) _ _ _ _ _ _
      unfold wpY_takeReply
      refine nm_r (od_ye t g) ?_
      refine hY _ ?_
      exact br_t rfl hP
  · have hto : ¬ nI t = nI o := od_nn (by omega) (by omega) e
    by_cases eg : t = g
    · subst eg
      refine od_Oi 2 N R z mx k1 (nI f) (nI t) (nI o) (nI t) k6 k7 k8 up seen st' sq' hp' nx' pc own ic io it ms pre box J' B (fun P hP => ?_) (fun P hP => ?_)
      · show wpX_onReply P _
        unfold wpX_onReply
        refine hX _ ?_
        refine br_f hto ?_
        refine od_xs ?_
        exact br_t rfl hP
      · show wpY_takeReply P (nI N, nI R, mx, nI z, up, own, seen, st, sq, hp, nx, pre, box, ms) _ _ _ _ _ _
        unfold wpY_takeReply
        refine nm_r (od_ye t t) ?_
        refine hY _ ?_
        exact br_f hto (br_t rfl hP)
    · have htg : ¬ nI t = nI g := od_nn (by omega) (by omega) eg
      by_cases h2 : st' (8 * t + g) = 2
      · refine od_Om (od_ans N R z mx k1 (nI f) (nI t) (nI o) (nI g) k6 k7 k8 up seen st' sq' hp' nx' pc own ic io it ms pre box J' B ht ho hg (fun _ => h2) (sq' (8 * t + g)) (hp' (8 * t + g))) (fun P hP => ?_) (fun P hP => ?_)
        · unfold wpX_onReply
          refine hX _ ?_
          refine br_f hto ?_
          refine od_xs ?_
          rw [c]
          refine br_f htg ⟨v, br_t h2 ⟨v, v, ?_⟩⟩
          exact hP
        · unfold wpY_takeReply
          refine nm_r (od_ye t g) ?_
          refine hY _ ?_
          refine br_f hto (br_f htg ?_)
          rw [c]
          refine ⟨v, br_t h2 ⟨v, v, ?_⟩⟩
          exact hP
      · refine od_Oi 2 N R z mx k1 (nI f) (nI t) (nI o) (nI g) k6 k7 k8 up seen st' sq' hp' nx' pc own ic io it ms pre box J' B (fun P hP => ?_) (fun P hP => ?_)
        · show wpX_onReply P _
          unfold wpX_onReply
          refine hX _ ?_
          refine br_f hto ?_
          refine od_xs ?_
          rw [c]
          exact br_f htg ⟨v, br_f h2 hP⟩
        · show wpY_takeReply P (nI N, nI R, mx, nI z, up, own, seen, st, sq, hp, nx, pre, box, ms) _ _ _ _ _ _
          unfold wpY_takeReply
          refine nm_r (od_ye t g) ?_
          refine hY _ ?_
          refine br_f hto (br_f htg ?_)
          rw [c]
          exact ⟨v, br_f h2 hP⟩
theorem od_err (N R z : Nat) (mx k1 k2 k3 k4 k5 k6 k7 k8 : Int32) (up seen st sq hp nx pc own ic io it ms pre box : Nat → Int32) (J : od_J N R z up st nx pc pre ms) (B : od_Bx ic io it box) {f t g : Nat} (hf : f < N) (ht : t < N) (hg : g < N) : od_O (fun P => wpX_onError P (nI N, nI R, mx, nI z, k1, nI f, nI t, k4, nI g, k6, k7, k8, up, seen, st, sq, hp, nx, pc, own, ic, io, it, ms)) (fun P => wpY_takeError P (nI N, nI R, mx, nI z, up, own, seen, st, sq, hp, nx, pre, box, ms) (nI t) (nI f) (nI g) k6) := by
  have hz := od_Jz J
  have c : (nI (8 * t + g)).toNatClampNeg = 8 * t + g := nI_clamp (by omega)
  have v : vp_in (nI (8 * t + g)) 64 := vp_in_nI (by omega) (by omega)
  by_cases eg : t = g
  · subst eg
    refine od_Oi 2 N R z mx k1 (nI f) (nI t) k4 (nI t) k6 k7 k8 up seen st sq hp nx pc own ic io it ms pre box J B (fun P hP => ?_) (fun P hP => ?_)
    · show wpX_onError P _
      unfold wpX_onError
      refine od_xs ?_
      exact br_t rfl hP
    · show wpY_takeError P (nI N, nI R, mx, nI z, up, own, seen, st, sq, hp, nx, pre, box, ms) _ _ _ _
      unfold wpY_takeError
      refine nm_r (od_ye t t) ?_
      exact br_t rfl hP
  · have htg : ¬ nI t = nI g := od_nn (by omega) (by omega) eg
    by_cases hc : st (8 * t + g) = 2 ∧ nx (8 * t + g) = nI f ∧ sq (8 * t + g) ≤ k6
    · obtain ⟨z', pc', pre', ms', J', hX, hY⟩ := od_lose N R z mx k1 (nI f) (nI t) k4 (nI g) k6 k7 k8 up seen st (upd sq (8 * t + g) k6) hp nx pc own ic io it ms pre box J ht hg
      refine od_Oi 6 N R z' mx k1 (nI f) (nI t) k4 (nI g) k6 k7 k8 up seen (upd st (8 * t + g) 1) (upd sq (8 * t + g) k6) hp nx pc' own ic io it ms' pre' box J' B (fun P hP => ?_) (fun P hP => ?_)
      · show wpX_onError P _
        unfold wpX_onError
        refine od_xs ?_
        rw [c]
        refine br_f htg ⟨v, br_t hc.1 ⟨v, br_t hc.2.1 ⟨v, br_t hc.2.2 ⟨v, nm_e ?_⟩⟩⟩⟩
        exact hX _ hP
      · show wpY_takeError P (nI N, nI R, mx, nI z, up, own, seen, st, sq, hp, nx, pre, box, ms) _ _ _ _
        unfold wpY_takeError
        refine nm_r (od_ye t g) ?_
        rw [c]
        refine br_f htg ⟨v, br_t hc.1 ⟨v, br_t hc.2.1 ⟨v, br_t hc.2.2 ⟨v, nm_e ?_⟩⟩⟩⟩
        exact hY _ hP
    · refine od_Oi 2 N R z mx k1 (nI f) (nI t) k4 (nI g) k6 k7 k8 up seen st sq hp nx pc own ic io it ms pre box J B (fun P hP => ?_) (fun P hP => ?_)
      · show wpX_onError P _
        unfold wpX_onError
        refine od_xs ?_
        rw [c]
        exact br_f htg ⟨v, br_c (fun h1 => ⟨v, br_c (fun h2 => ⟨v, br_c (fun h3 => absurd ⟨h1, h2, h3⟩ hc) (fun _ => hP)⟩) (fun _ => hP)⟩) (fun _ => hP)⟩
      · show wpY_takeError P (nI N, nI R, mx, nI z, up, own, seen, st, sq, hp, nx, pre, box, ms) _ _ _ _
        unfold wpY_takeError
        refine nm_r (od_ye t g) ?_
        rw [c]
        exact br_f htg ⟨v, br_c (fun h1 => ⟨v, br_c (fun h2 => ⟨v, br_c (fun h3 => absurd ⟨h1, h2, h3⟩ hc) (fun _ => hP)⟩) (fun _ => hP)⟩) (fun _ => hP)⟩
theorem od_Bu {ic io it box : Nat → Int32} (B : od_Bx ic io it box) (t : Nat) (x y w : Int32) : od_Bx (upd ic t x) (upd io t y) (upd it t w) (upd (upd (upd box (3 * t) x) (3 * t + 1) y) (3 * t + 2) w) := by
  intro i hi
  by_cases e : i = t
  · subst e
    rw [pk_us, pk_us, pk_us, pk_us, pk_un (by omega), pk_un (by omega), pk_us, pk_un (by omega), pk_us]
    exact ⟨rfl, rfl, rfl⟩
  · rw [pk_un e, pk_un e, pk_un e, pk_un (by omega), pk_un (by omega), pk_un (by omega), pk_un (by omega), pk_un (by omega), pk_un (by omega), pk_un (by omega), pk_un (by omega), pk_un (by omega)]
    exact B i hi
theorem od_dat (N R z : Nat) (mx k1 k2 k3 k4 k5 k6 k7 k8 : Int32) (up seen st sq hp nx pc own ic io it ms pre box : Nat → Int32) (J : od_J N R z up st nx pc pre ms) (B : od_Bx ic io it box) {f t o g : Nat} (hf : f < N) (ht : t < N) (ho : o < N) (hg : g < N) : od_O (fun P => wpX_onData P (nI N, nI R, mx, nI z, k1, nI f, nI t, nI o, nI g, k6, k7, k8, up, seen, st, sq, hp, nx, pc, own, ic, io, it, ms)) (fun P => wpY_takeData P (nI N, nI R, mx, nI z, up, own, seen, st, sq, hp, nx, pre, box, ms) (nI t) (nI f) (nI o) (nI g) k8) := by
  have hz := od_Jz J
  have c : (nI (8 * t + g)).toNatClampNeg = 8 * t + g := nI_clamp (by omega)
  have v : vp_in (nI (8 * t + g)) 64 := vp_in_nI (by omega) (by omega)
  by_cases eg : t = g
  · subst eg
    have ct : (nI t).toNatClampNeg = t := nI_clamp (by omega)
    have vt : vp_in (nI t) 8 := vp_in_nI (by omega) (by omega)
    have d0 : (nI (3 * t)).toNatClampNeg = 3 * t := nI_clamp (by omega)
    have d1 : (nI (3 * t + 1)).toNatClampNeg = 3 * t + 1 := nI_clamp (by omega)
    have d2 : (nI (3 * t + 2)).toNatClampNeg = 3 * t + 2 := nI_clamp (by omega)
    refine od_Oi 5 N R z mx k1 (nI f) (nI t) (nI o) (nI t) k6 k7 k8 up seen st sq hp nx pc own (upd ic t (ic t + 1)) (upd io t (nI o)) (upd it t k8) ms pre (upd (upd (upd box (3 * t) (ic t + 1)) (3 * t + 1) (nI o)) (3 * t + 2) k8) J (od_Bu B t _ _ _) (fun P hP => ?_) (fun P hP => ?_)
    · show wpX_onData P _
      unfold wpX_onData
      refine br_t rfl ?_
      rw [ct]
      exact ⟨vt, vt, nm_e ⟨vt, nm_e ⟨vt, nm_e hP⟩⟩⟩
    · show wpY_takeData P (nI N, nI R, mx, nI z, up, own, seen, st, sq, hp, nx, pre, box, ms) _ _ _ _ _
      unfold wpY_takeData
      refine nm_r (od_ye t t) ?_
      refine br_t rfl ?_
      rw [od_3m, od_p0, nI_1 (3 * t), od_p2, d0, d1, d2, (B t (by omega)).1]
      exact ⟨vp_in_nI (by omega) (by omega), vp_in_nI (by omega) (by omega), nm_e ⟨vp_in_nI (by omega) (by omega), nm_e ⟨vp_in_nI (by omega) (by omega), nm_e hP⟩⟩⟩
  · have htg : ¬ nI t = nI g := od_nn (by omega) (by omega) eg
    by_cases h2 : st (8 * t + g) = 2
    · obtain ⟨n, hn, en⟩ := od_Jnx J ht hg h2
      have cl : (nI (8 * t + n)).toNatClampNeg = 8 * t + n := nI_clamp (by omega)
      have vl : vp_in (nI (8 * t + n)) 64 := vp_in_nI (by omega) (by omega)
      have c5 : (nI (8 * (8 * t + g) + f)).toNatClampNeg = 8 * (8 * t + g) + f := nI_clamp (by omega)
      have v5 : vp_in (nI (8 * (8 * t + g) + f)) 512 := vp_in_nI (by omega) (by omega)
      have J1 := od_Jor J (e := 8 * t + g) hf
      by_cases hu : up (8 * t + n) = 0
      · obtain ⟨q, z', st', pc', pre', ms', J', _, hX, hY⟩ := od_brk N R z mx k1 (nI f) (nI t) (nI o) (nI g) k6 k7 k8 up seen st sq hp nx (upd pc (8 * t + g) (pc (8 * t + g) ||| ((1 : Int32) <<< (nI f &&& 31)))) own ic io it ms (upd pre (8 * (8 * t + g) + f) 1) box J1 ht (nI n)
        refine od_Oi (-3) N R z' mx k1 (nI f) (nI t) (nI o) (nI g) k6 k7 k8 up seen st' sq hp nx pc' own ic io it ms' pre' box J' B (fun P hP => ?_) (fun P hP => ?_)
        · show wpX_onData P _
          unfold wpX_onData
          refine br_f htg ?_
          refine od_xs ?_
          rw [c]
          refine ⟨v, br_t h2 ⟨v, v, nm_e ⟨v, nm_r en ?_⟩⟩⟩
          refine od_xs ?_
          rw [cl]
          refine ⟨vl, br_t hu ?_⟩
          exact hX _ hP
        · show wpY_takeData P (nI N, nI R, mx, nI z, up, own, seen, st, sq, hp, nx, pre, box, ms) _ _ _ _ _
          unfold wpY_takeData
          refine nm_r (od_ye t g) ?_
          refine br_f htg ?_
          rw [c]
          refine ⟨v, br_t h2 ?_⟩
          rw [od_ye, c5, od_n1]
          refine ⟨v5, nm_e ⟨v, nm_r en ?_⟩⟩
          refine od_yk (by omega) J.2.1 ht hn (fun _ => br_t rfl ?_) (fun k => absurd hu k)
          exact hY _ hP
      · by_cases hR : z < R
        · refine od_Oi 4 N R (z + 1) mx k1 (nI f) (nI t) (nI o) (nI g) k6 k7 k8 up seen st sq hp nx (upd pc (8 * t + g) (pc (8 * t + g) ||| ((1 : Int32) <<< (nI f &&& 31)))) own ic io it (od_w ms (8 * z) 5 (nI t) (nI n) (nI o) (nI g) 0 0 k8) (upd pre (8 * (8 * t + g) + f) 1) box (od_Jp J1 hR ht hn ho hg _ _ _ _) B (fun P hP => ?_) (fun P hP => ?_)
          · show wpX_onData P _
            unfold wpX_onData
            refine br_f htg ?_
            refine od_xs ?_
            rw [c]
            refine ⟨v, br_t h2 ⟨v, v, nm_e ⟨v, nm_r en ?_⟩⟩⟩
            refine od_xs ?_
            rw [cl]
            refine ⟨vl, br_f hu ?_⟩
            refine od_xo1 hR (by omega) ?_
            refine od_xf1 (by omega) ?_
            exact hP
          · show wpY_takeData P (nI N, nI R, mx, nI z, up, own, seen, st, sq, hp, nx, pre, box, ms) _ _ _ _ _
            unfold wpY_takeData
            refine nm_r (od_ye t g) ?_
            refine br_f htg ?_
            rw [c]
            refine ⟨v, br_t h2 ?_⟩
            rw [od_ye, c5, od_n1]
            refine ⟨v5, nm_e ⟨v, nm_r en ?_⟩⟩
            refine od_yk (by omega) J.2.1 ht hn (fun k => absurd k hu) (fun _ => br_f (by decide) ?_)
            refine od_yp1 hR (by omega) ?_
            refine br_f (by decide) ?_
            refine od_yx8 (by omega) ?_
            exact hP
        · refine od_Oi 4 N R z mx k1 (nI f) (nI t) (nI o) (nI g) k6 k7 k8 up seen st sq hp nx (upd pc (8 * t + g) (pc (8 * t + g) ||| ((1 : Int32) <<< (nI f &&& 31)))) own ic io it ms (upd pre (8 * (8 * t + g) + f) 1) box J1 B (fun P hP => ?_) (fun P hP => ?_)
          · show wpX_onData P _
            unfold wpX_onData
            refine br_f htg ?_
            refine od_xs ?_
            rw [c]
            refine ⟨v, br_t h2 ⟨v, v, nm_e ⟨v, nm_r en ?_⟩⟩⟩
            refine od_xs ?_
            rw [cl]
            refine ⟨vl, br_f hu ?_⟩
            refine od_xo0 hR (by omega) ?_
            refine od_xf0 ?_
            exact hP
          · show wpY_takeData P (nI N, nI R, mx, nI z, up, own, seen, st, sq, hp, nx, pre, box, ms) _ _ _ _ _
            unfold wpY_takeData
            refine nm_r (od_ye t g) ?_
            refine br_f htg ?_
            rw [c]
            refine ⟨v, br_t h2 ?_⟩
            rw [od_ye, c5, od_n1]
            refine ⟨v5, nm_e ⟨v, nm_r en ?_⟩⟩
            refine od_yk (by omega) J.2.1 ht hn (fun k => absurd k hu) (fun _ => br_f (by decide) ?_)
            refine od_yp0 hR (by omega) ?_
            exact br_t rfl hP
    · by_cases hR : z < R
      · refine od_Oi (-2) N R (z + 1) mx k1 (nI f) (nI t) (nI o) (nI g) k6 k7 k8 up seen st sq hp nx pc own ic io it (od_w ms (8 * z) 4 (nI t) (nI f) 0 (nI g) (sq (8 * t + g)) 0 0) pre box (od_Jp J hR ht hf (o := 0) (by omega) hg _ _ _ _) B (fun P hP => ?_) (fun P hP => ?_)
        · show wpX_onData P _
          unfold wpX_onData
          refine br_f htg ?_
          refine od_xs ?_
          rw [c]
          refine ⟨v, br_f h2 ⟨v, ?_⟩⟩
          refine od_xe1 hR (by omega) ?_
          exact hP
        · show wpY_takeData P (nI N, nI R, mx, nI z, up, own, seen, st, sq, hp, nx, pre, box, ms) _ _ _ _ _
          unfold wpY_takeData
          refine nm_r (od_ye t g) ?_
          refine br_f htg ?_
          rw [c]
          refine ⟨v, br_f h2 ⟨v, ?_⟩⟩
          refine od_yp1 hR (by omega) ?_
          exact hP
      · refine od_Oi (-2) N R z mx k1 (nI f) (nI t) (nI o) (nI g) k6 k7 k8 up seen st sq hp nx pc own ic io it ms pre box J B (fun P hP => ?_) (fun P hP => ?_)
        · show wpX_onData P _
          unfold wpX_onData
          refine br_f htg ?_
          refine od_xs ?_
          rw [c]
          refine ⟨v, br_f h2 ⟨v, ?_⟩⟩
          refine od_xe0 hR (by omega) ?_
          exact hP
        · show wpY_takeData P (nI N, nI R, mx, nI z, up, own, seen, st, sq, hp, nx, pre, box, ms) _ _ _ _ _
          unfold wpY_takeData
          refine nm_r (od_ye t g) ?_
          refine br_f htg ?_
          rw [c]
          refine ⟨v, br_f h2 ⟨v, ?_⟩⟩
          refine od_yp0 hR (by omega) ?_
          exact hP
/-- the relay of a request -/
theorem od_rel (N R z : Nat) (mx k1 k2 k3 k4 k5 k6 k7 k8 : Int32) (up seen st sq hp nx pc own ic io it ms pre box : Nat → Int32) (J : od_J N R z up st nx pc pre ms) (B : od_Bx ic io it box) {f t o g : Nat} (hf : f < N) (ht : t < N) (ho : o < N) (hg : g < N) : od_O (fun P => wX_onRequest_143 P (nI t) (nI N) (nI R) mx (nI z) k1 (nI f) (nI t) (nI o) (nI g) k6 k7 k8 up seen st sq hp nx pc own ic io it ms) (fun P => wY_deliver_351 P k1 (nI f) (nI t) (nI o) (nI g) k6 k7 k8 (nI N) (nI R) mx (nI z) up own seen st sq hp nx pre box ms) := by
  have hz := od_Jz J
  by_cases hw : od_nd st sq (8 * t + g) ≤ k8
  · obtain ⟨z', ms', J', hX, hY⟩ := od_fl2 (i := t) (f := f) (o := o) (d := g) k1 k6 k7 k8 N 0 N R z mx k1 (nI f) (nI t) (nI o) (nI g) k6 k7 k8 up seen st sq hp nx pc own ic io it ms pre box ht hf ho hg (by omega) J
    refine od_Oi 4 N R z' mx k1 (nI f) (nI t) (nI o) (nI g) k6 (k7 + 1) k8 up seen st sq hp nx pc own ic io it ms' pre box J' B (fun P hP => ?_) (fun P hP => ?_)
    · show wX_onRequest_143 P _ (nI N) (nI R) mx (nI z) k1 (nI f) (nI t) (nI o) (nI g) k6 k7 k8 up seen st sq hp nx pc own ic io it ms
      unfold wX_onRequest_143
      refine od_xn (by omega) ?_
      refine br_t hw ?_
      unfold wX_onRequest_169
      refine nm_e ?_
      exact ⟨N + 1, hX _ _ hP⟩
    · show wY_deliver_351 P _ _ _ _ _ _ _ _ (nI N) (nI R) mx (nI z) up own seen st sq hp nx pre box ms
      unfold wY_deliver_351
      refine od_yn (by omega) ?_
      refine br_c (fun h1 => ?_) (fun _ => ⟨N + 1, hY _ hP⟩)
      have e : od_nd st sq (8 * t + g) = k8 := Int32.le_antisymm hw h1
      rw [e]
      exact ⟨N + 1, hY _ hP⟩
  · obtain ⟨z', ms', J', hX, hY⟩ := od_fl2 (i := t) (f := f) (o := o) (d := g) k1 k6 k7 (od_nd st sq (8 * t + g)) N 0 N R z mx k1 (nI f) (nI t) (nI o) (nI g) k6 k7 k8 up seen st sq hp nx pc own ic io it ms pre box ht hf ho hg (by omega) J
    refine od_Oi 4 N R z' mx k1 (nI f) (nI t) (nI o) (nI g) k6 (k7 + 1) (od_nd st sq (8 * t + g)) up seen st sq hp nx pc own ic io it ms' pre box J' B (fun P hP => ?_) (fun P hP => ?_)
    · show wX_onRequest_143 P _ (nI N) (nI R) mx (nI z) k1 (nI f) (nI t) (nI o) (nI g) k6 k7 k8 up seen st sq hp nx pc own ic io it ms
      unfold wX_onRequest_143
      refine od_xn (by omega) ?_
      refine br_f hw ?_
      unfold wX_onRequest_169
      refine nm_e ?_
      exact ⟨N + 1, hX _ _ hP⟩
    · show wY_deliver_351 P _ _ _ _ _ _ _ _ (nI N) (nI R) mx (nI z) up own seen st sq hp nx pre box ms
      unfold wY_deliver_351
      refine od_yn (by omega) ?_
      refine br_t (Int32.le_of_lt (Int32.not_le.mp hw)) ?_
      exact ⟨N + 1, hY _ hP⟩
end
section
/-! a delivery -/
section od9
variable {N R z : Nat} {mx k1 k2 k3 k4 k5 k6 k7 k8 : Int32} {up seen st sq hp nx pc own ic io it ms pre box : Nat → Int32}
theorem od_xdel {P : Int32 → SX → Prop} {k f t : Nat} {q1 q4 q5 q6 q7 q8 : Int32} (hz : z ≤ 32) (hk : k < z) (hf : f < 8) (ht : t < 8) (e1 : ms (8 * k) = q1) (e2 : ms (8 * k + 1) = nI f) (e3 : ms (8 * k + 2) = nI t) (e4 : ms (8 * k + 3) = q4) (e5 : ms (8 * k + 4) = q5) (e6 : ms (8 * k + 5) = q6) (e7 : ms (8 * k + 6) = q7) (e8 : ms (8 * k + 7) = q8)
    (h0 : up (8 * f + t) = 0 → P 1 (nI N, nI R, mx, nI (z - 1), q1, nI f, nI t, q4, q5, q6, q7, q8, up, seen, st, sq, hp, nx, pc, own, ic, io, it, od_sh ms (8 * k) (8 * (z - 1))))
    (h3 : ¬ up (8 * f + t) = 0 → q1 = 3 → wpX_onReply P (nI N, nI R, mx, nI (z - 1), q1, nI f, nI t, q4, q5, q6, q7, q8, up, seen, st, sq, hp, nx, pc, own, ic, io, it, od_sh ms (8 * k) (8 * (z - 1))))
    (h4 : ¬ up (8 * f + t) = 0 → q1 = 4 → wpX_onError P (nI N, nI R, mx, nI (z - 1), q1, nI f, nI t, q4, q5, q6, q7, q8, up, seen, st, sq, hp, nx, pc, own, ic, io, it, od_sh ms (8 * k) (8 * (z - 1))))
    (h5 : ¬ up (8 * f + t) = 0 → q1 = 5 → wpX_onData P (nI N, nI R, mx, nI (z - 1), q1, nI f, nI t, q4, q5, q6, q7, q8, up, seen, st, sq, hp, nx, pc, own, ic, io, it, od_sh ms (8 * k) (8 * (z - 1))))
    (hr : ¬ up (8 * f + t) = 0 → ¬ q1 = 3 → ¬ q1 = 4 → ¬ q1 = 5 → wpX_onRequest P (nI N, nI R, mx, nI (z - 1), q1, nI f, nI t, q4, q5, q6, q7, q8, up, seen, st, sq, hp, nx, pc, own, ic, io, it, od_sh ms (8 * k) (8 * (z - 1)))) : wpX_deliverAt P (nI N, nI R, mx, nI z, k1, k2, k3, k4, k5, k6, k7, k8, up, seen, st, sq, hp, nx, pc, own, ic, io, it, ms) (nI k) := by
  have c : (nI (8 * f + t)).toNatClampNeg = 8 * f + t := nI_clamp (by omega)
  have v : vp_in (nI (8 * f + t)) 64 := vp_in_nI (by omega) (by omega)
  unfold wpX_deliverAt
  refine od_xt hz hk e1 e2 e3 e4 e5 e6 e7 e8 ?_
  refine od_xs ?_
  rw [c]
  refine ⟨v, br_c h0 (fun hu => br_c (fun a => ?_) (fun a => br_c (fun b => ?_) (fun b => br_c (fun d => h3 hu d) (fun d3 => br_c (fun d => h4 hu d) (fun d4 => br_c (fun d => h5 hu d) (fun _ => trivial))))))⟩
  · exact hr hu (fun e => by rw [e] at a; exact absurd a (by decide)) (fun e => by rw [e] at a; exact absurd a (by decide)) (fun e => by rw [e] at a; exact absurd a (by decide))
  · exact hr hu (fun e => by rw [e] at b; exact absurd b (by decide)) (fun e => by rw [e] at b; exact absurd b (by decide)) (fun e => by rw [e] at b; exact absurd b (by decide))
theorem od_xreq {P : Int32 → SX → Prop} {f t o g : Nat} {st' sq' hp' nx' : Nat → Int32} (ht : t < 8) (ho : o < 8) (hg : g < 8)
    (hl : ∀ Q : SX → Prop, Q (nI N, nI R, mx, nI z, k1, nI f, nI t, nI o, nI g, k6, k7, k8, up, seen, st', sq', hp', nx', pc, own, ic, io, it, ms) → wpX_learn Q (nI N, nI R, mx, nI z, k1, nI f, nI t, nI o, nI g, k6, k7, k8, up, seen, st, sq, hp, nx, pc, own, ic, io, it, ms) (nI t) (nI o) k6 (k7 + 1) (nI f))
    (h1 : ¬ seen (8 * t + o) < k6 → P 2 (nI N, nI R, mx, nI z, k1, nI f, nI t, nI o, nI g, k6, k7, k8, up, seen, st', sq', hp', nx', pc, own, ic, io, it, ms))
    (h2 : seen (8 * t + o) < k6 → t = g → ¬ k8 ≤ mx → P 2 (nI N, nI R, mx, nI z, k1, nI f, nI t, nI o, nI g, k6, k7, k8, up, upd seen (8 * t + o) k6, st', sq', hp', nx', pc, own, ic, io, it, ms))
    (h3 : seen (8 * t + o) < k6 → t = g → k8 ≤ mx → k8 ≤ own t → wX_answerAsTarget_41 P (nI t) (nI N) (nI R) mx (nI z) k1 (nI f) (nI t) (nI o) (nI g) k6 k7 k8 up (upd seen (8 * t + o) k6) st' sq' hp' nx' pc own ic io it ms)
    (h3' : seen (8 * t + o) < k6 → t = g → k8 ≤ mx → ¬ k8 ≤ own t → wX_answerAsTarget_41 P (nI t) (nI N) (nI R) mx (nI z) k1 (nI f) (nI t) (nI o) (nI g) k6 k7 k8 up (upd seen (8 * t + o) k6) st' sq' hp' nx' pc (upd own t k8) ic io it ms)
    (h4 : seen (8 * t + o) < k6 → t ≠ g → k1 = 1 → st' (8 * t + g) = 2 → ¬ sq' (8 * t + g) < k8 → wpX_answer P (nI N, nI R, mx, nI z, k1, nI f, nI t, nI o, nI g, k6, k7, k8, up, upd seen (8 * t + o) k6, st', sq', hp', nx', pc, own, ic, io, it, ms) (nI t) (nI o) (nI g) (sq' (8 * t + g)) (hp' (8 * t + g)))
    (h5 : seen (8 * t + o) < k6 → t ≠ g → ¬ (k1 = 1 ∧ st' (8 * t + g) = 2 ∧ ¬ sq' (8 * t + g) < k8) → wX_onRequest_143 P (nI t) (nI N) (nI R) mx (nI z) k1 (nI f) (nI t) (nI o) (nI g) k6 k7 k8 up (upd seen (8 * t + o) k6) st' sq' hp' nx' pc own ic io it ms) : wpX_onRequest P (nI N, nI R, mx, nI z, k1, nI f, nI t, nI o, nI g, k6, k7, k8, up, seen, st, sq, hp, nx, pc, own, ic, io, it, ms) := by
  have c : (nI (8 * t + o)).toNatClampNeg = 8 * t + o := nI_clamp (by omega)
  have v : vp_in (nI (8 * t + o)) 64 := vp_in_nI (by omega) (by omega)
  have cg : (nI (8 * t + g)).toNatClampNeg = 8 * t + g := nI_clamp (by omega)
  have vg : vp_in (nI (8 * t + g)) 64 := vp_in_nI (by omega) (by omega)
  have ct : (nI t).toNatClampNeg = t := nI_clamp (by omega)
  have vt : vp_in (nI t) 8 := vp_in_nI (by omega) (by omega)
  unfold wpX_onRequest
  refine hl _ ?_
  refine od_xs ?_
  rw [c]
  refine ⟨v, br_c (fun a => ⟨v, nm_e ?_⟩) h1⟩
  by_cases e : t = g
  · refine br_t (congrArg nI e) ?_
    unfold wpX_answerAsTarget
    refine br_c (fun b => ?_) (fun b => h2 a e b)
    rw [ct]
    exact ⟨vt, br_c (fun d => h3 a e b d) (fun d => ⟨vt, nm_e (h3' a e b d)⟩)⟩
  · refine br_f (od_nn ht hg e) ?_
    refine od_xs ?_
    rw [cg]
    refine br_c (fun b => ⟨vg, br_c (fun d => ⟨vg, br_c (fun q => ?_) (fun q => ⟨vg, vg, h4 a e b d q⟩)⟩) (fun d => ?_)⟩) (fun b => ?_)
    · exact h5 a e (fun w => w.2.2 q)
    · exact h5 a e (fun w => d w.2.1)
    · exact h5 a e (fun w => b w.1)
theorem od_ydel {P : Int32 → SY → Prop} {k f t o g : Nat} {q1 q6 q7 q8 : Int32} {st' sq' hp' nx' : Nat → Int32} (hN : N ≤ 8) (hu : ∀ a, a < N → up (8 * a + a) = 0) (hz : z ≤ 32) (hk : k < z) (hf : f < N) (ht : t < N) (ho : o < N) (hg : g < N) (e1 : ms (8 * k) = q1) (e2 : ms (8 * k + 1) = nI f) (e3 : ms (8 * k + 2) = nI t) (e4 : ms (8 * k + 3) = nI o) (e5 : ms (8 * k + 4) = nI g) (e6 : ms (8 * k + 5) = q6) (e7 : ms (8 * k + 6) = q7) (e8 : ms (8 * k + 7) = q8)
    (g0 : up (8 * f + t) = 0 → P 1 (nI N, nI R, mx, nI (z - 1), up, own, seen, st, sq, hp, nx, pre, box, od_sh ms (8 * k) (8 * (z - 1))))
    (g3 : ¬ up (8 * f + t) = 0 → q1 = 3 → wpY_takeReply P (nI N, nI R, mx, nI (z - 1), up, own, seen, st, sq, hp, nx, pre, box, od_sh ms (8 * k) (8 * (z - 1))) (nI t) (nI f) (nI o) (nI g) q6 q7)
    (g4 : ¬ up (8 * f + t) = 0 → q1 = 4 → wpY_takeError P (nI N, nI R, mx, nI (z - 1), up, own, seen, st, sq, hp, nx, pre, box, od_sh ms (8 * k) (8 * (z - 1))) (nI t) (nI f) (nI g) q6)
    (g5 : ¬ up (8 * f + t) = 0 → q1 = 5 → wpY_takeData P (nI N, nI R, mx, nI (z - 1), up, own, seen, st, sq, hp, nx, pre, box, od_sh ms (8 * k) (8 * (z - 1))) (nI t) (nI f) (nI o) (nI g) q8)
    (hl : (¬ up (8 * f + t) = 0 ∧ ¬ q1 = 3 ∧ ¬ q1 = 4 ∧ ¬ q1 = 5) → ∀ Q : SY → Prop, Q (nI N, nI R, mx, nI (z - 1), up, own, seen, st', sq', hp', nx', pre, box, od_sh ms (8 * k) (8 * (z - 1))) → wpY_learn Q (nI N, nI R, mx, nI (z - 1), up, own, seen, st, sq, hp, nx, pre, box, od_sh ms (8 * k) (8 * (z - 1))) (nI t) (nI o) q6 (q7 + 1) (nI f))
    (h1 : (¬ up (8 * f + t) = 0 ∧ ¬ q1 = 3 ∧ ¬ q1 = 4 ∧ ¬ q1 = 5) → ¬ seen (8 * t + o) < q6 → P 2 (nI N, nI R, mx, nI (z - 1), up, own, seen, st', sq', hp', nx', pre, box, od_sh ms (8 * k) (8 * (z - 1))))
    (h2 : (¬ up (8 * f + t) = 0 ∧ ¬ q1 = 3 ∧ ¬ q1 = 4 ∧ ¬ q1 = 5) → seen (8 * t + o) < q6 → t = g → ¬ q8 ≤ mx → P 2 (nI N, nI R, mx, nI (z - 1), up, own, upd seen (8 * t + o) q6, st', sq', hp', nx', pre, box, od_sh ms (8 * k) (8 * (z - 1))))
    (h3 : (¬ up (8 * f + t) = 0 ∧ ¬ q1 = 3 ∧ ¬ q1 = 4 ∧ ¬ q1 = 5) → seen (8 * t + o) < q6 → t = g → q8 ≤ mx → q8 ≤ own t → wY_deliver_269 P (nI t) (nI o) (nI g) (nI N) (nI R) mx (nI (z - 1)) up own (upd seen (8 * t + o) q6) st' sq' hp' nx' pre box (od_sh ms (8 * k) (8 * (z - 1))))
    (h3' : (¬ up (8 * f + t) = 0 ∧ ¬ q1 = 3 ∧ ¬ q1 = 4 ∧ ¬ q1 = 5) → seen (8 * t + o) < q6 → t = g → q8 ≤ mx → ¬ q8 ≤ own t → wY_deliver_269 P (nI t) (nI o) (nI g) (nI N) (nI R) mx (nI (z - 1)) up (upd own t q8) (upd seen (8 * t + o) q6) st' sq' hp' nx' pre box (od_sh ms (8 * k) (8 * (z - 1))))
    (h4 : (¬ up (8 * f + t) = 0 ∧ ¬ q1 = 3 ∧ ¬ q1 = 4 ∧ ¬ q1 = 5) → seen (8 * t + o) < q6 → t ≠ g → q1 = 1 → st' (8 * t + g) = 2 → ¬ sq' (8 * t + g) < q8 → wpY_answer P (nI N, nI R, mx, nI (z - 1), up, own, upd seen (8 * t + o) q6, st', sq', hp', nx', pre, box, od_sh ms (8 * k) (8 * (z - 1))) (nI t) (nI o) (nI g) (sq' (8 * t + g)) (hp' (8 * t + g)))
    (h5 : (¬ up (8 * f + t) = 0 ∧ ¬ q1 = 3 ∧ ¬ q1 = 4 ∧ ¬ q1 = 5) → seen (8 * t + o) < q6 → t ≠ g → ¬ (q1 = 1 ∧ st' (8 * t + g) = 2 ∧ ¬ sq' (8 * t + g) < q8) → wY_deliver_351 P q1 (nI f) (nI t) (nI o) (nI g) q6 q7 q8 (nI N) (nI R) mx (nI (z - 1)) up own (upd seen (8 * t + o) q6) st' sq' hp' nx' pre box (od_sh ms (8 * k) (8 * (z - 1)))) : wpY_deliver P (nI N, nI R, mx, nI z, up, own, seen, st, sq, hp, nx, pre, box, ms) (nI k) := by
  have c0 : (nI (8 * k)).toNatClampNeg = 8 * k := nI_clamp (by omega)
  have c1 : (nI (8 * k + 1)).toNatClampNeg = 8 * k + 1 := nI_clamp (by omega)
  have c2 : (nI (8 * k + 2)).toNatClampNeg = 8 * k + 2 := nI_clamp (by omega)
  have c3 : (nI (8 * k + 3)).toNatClampNeg = 8 * k + 3 := nI_clamp (by omega)
  have c4 : (nI (8 * k + 4)).toNatClampNeg = 8 * k + 4 := nI_clamp (by omega)
  have c5 : (nI (8 * k + 5)).toNatClampNeg = 8 * k + 5 := nI_clamp (by omega)
  have c6 : (nI (8 * k + 6)).toNatClampNeg = 8 * k + 6 := nI_clamp (by omega)
  have c7 : (nI (8 * k + 7)).toNatClampNeg = 8 * k + 7 := nI_clamp (by omega)
  have c : (nI (8 * t + o)).toNatClampNeg = 8 * t + o := nI_clamp (by omega)
  have v : vp_in (nI (8 * t + o)) 64 := vp_in_nI (by omega) (by omega)
  have cg : (nI (8 * t + g)).toNatClampNeg = 8 * t + g := nI_clamp (by omega)
  have vg : vp_in (nI (8 * t + g)) 64 := vp_in_nI (by omega) (by omega)
  have ct : (nI t).toNatClampNeg = t := nI_clamp (by omega)
  have vt : vp_in (nI t) 8 := vp_in_nI (by omega) (by omega)
  unfold wpY_deliver
  refine br_f (nI_pos (by omega)) (br_t (nI_lt hk (by omega)) ?_)
  refine nm_r (od_8m k) ?_
  rw [od_p0, nI_1 (8 * k), od_p2, od_p3, od_p4, od_p5, od_p6, od_p7, c0, c1, c2, c3, c4, c5, c6, c7]
  refine ⟨vp_in_nI (by omega) (by omega), nm_r e1 ⟨vp_in_nI (by omega) (by omega), nm_r e2 ⟨vp_in_nI (by omega) (by omega), nm_r e3 ⟨vp_in_nI (by omega) (by omega), nm_r e4 ⟨vp_in_nI (by omega) (by omega), nm_r e5 ⟨vp_in_nI (by omega) (by omega), nm_r e6 ⟨vp_in_nI (by omega) (by omega), nm_r e7 ⟨vp_in_nI (by omega) (by omega), nm_r e8 ?_⟩⟩⟩⟩⟩⟩⟩⟩
  refine od_yd hz hk ?_
  refine od_yk hN hu hf ht (fun a => br_t rfl (g0 a)) (fun a => br_f (by decide) ?_)
  refine br_c (fun b => g3 a b) (fun b3 => br_c (fun b => g4 a b) (fun b4 => br_c (fun b => g5 a b) (fun b5 => ?_)))
  have K := And.intro a (And.intro b3 (And.intro b4 b5))
  refine hl K _ ?_
  rw [od_ye t o, c]
  refine ⟨v, br_c (fun s => ⟨v, nm_e ?_⟩) (fun s => h1 K s)⟩
  by_cases e : t = g
  · refine br_t (congrArg nI e) ?_
    refine br_c (fun b => ?_) (fun b => h2 K s e b)
    rw [ct]
    exact ⟨vt, br_c (fun d => h3 K s e b d) (fun d => ⟨vt, nm_e (h3' K s e b d)⟩)⟩
  · refine br_f (od_nn (by omega) (by omega) e) ?_
    refine nm_r (od_ye t g) ?_
    rw [cg]
    refine br_c (fun b => ⟨vg, br_c (fun d => ⟨vg, br_c (fun q => ?_) (fun q => ⟨vg, vg, h4 K s e b d q⟩)⟩) (fun d => ?_)⟩) (fun b => ?_)
    · exact h5 K s e (fun w => w.2.2 q)
    · exact h5 K s e (fun w => d w.2.1)
    · exact h5 K s e (fun w => b w.1)
end od9
theorem od_a41 (N R z : Nat) (mx k1 k2 k3 k4 k5 k6 k7 k8 : Int32) (up seen st sq hp nx pc own ic io it ms pre box : Nat → Int32) (J : od_J N R z up st nx pc pre ms) (B : od_Bx ic io it box) {t o : Nat} (ht : t < N) (ho : o < N) : od_O (fun P => wX_answerAsTarget_41 P (nI t) (nI N) (nI R) mx (nI z) k1 k2 k3 (nI o) k5 k6 k7 k8 up seen st sq hp nx pc own ic io it ms) (fun P => wY_deliver_269 P (nI t) (nI o) (nI t) (nI N) (nI R) mx (nI z) up own seen st sq hp nx pre box ms) := by
  have hz := od_Jz J
  have ct : (nI t).toNatClampNeg = t := nI_clamp (by omega)
  have vt : vp_in (nI t) 8 := vp_in_nI (by omega) (by omega)
  refine od_Om (od_ans N R z mx k1 k2 k3 (nI o) k5 k6 k7 k8 up seen st sq hp nx pc own ic io it ms pre box J B ht ho ht (fun e => absurd rfl e) (own t) 0) (fun P hP => ?_) (fun P hP => ?_)
  · unfold wX_answerAsTarget_41
    rw [ct]
    exact ⟨vt, hP⟩
  · unfold wY_deliver_269
    rw [ct]
    exact ⟨vt, hP⟩
theorem od_del (N R z : Nat) (mx k1 k2 k3 k4 k5 k6 k7 k8 : Int32) (up seen st sq hp nx pc own ic io it ms pre box : Nat → Int32) (J : od_J N R z up st nx pc pre ms) (B : od_Bx ic io it box) {k : Nat} (hk : k < z) : od_O (fun P => wpX_deliverAt P (nI N, nI R, mx, nI z, k1, k2, k3, k4, k5, k6, k7, k8, up, seen, st, sq, hp, nx, pc, own, ic, io, it, ms) (nI k)) (fun P => wpY_deliver P (nI N, nI R, mx, nI z, up, own, seen, st, sq, hp, nx, pre, box, ms) (nI k)) := by
  have hz := od_Jz J
  obtain ⟨f, hf, e2⟩ := od_Jms J hk (f := 1) (by omega) (by omega)
  obtain ⟨t, ht, e3⟩ := od_Jms J hk (f := 2) (by omega) (by omega)
  obtain ⟨o, ho, e4⟩ := od_Jms J hk (f := 3) (by omega) (by omega)
  obtain ⟨g, hg, e5⟩ := od_Jms J hk (f := 4) (by omega) (by omega)
  have Jd := od_Jsh J hk
  by_cases hu : up (8 * f + t) = 0
  · refine od_Oi 1 N R (z - 1) mx (ms (8 * k)) (nI f) (nI t) (nI o) (nI g) (ms (8 * k + 5)) (ms (8 * k + 6)) (ms (8 * k + 7)) up seen st sq hp nx pc own ic io it (od_sh ms (8 * k) (8 * (z - 1))) pre box Jd B (fun P hP => ?_) (fun P hP => ?_)
    · exact od_xdel (by omega) hk (by omega) (by omega) rfl e2 e3 e4 e5 rfl rfl rfl (fun _ => hP) (fun a => absurd hu a) (fun a => absurd hu a) (fun a => absurd hu a) (fun a => absurd hu a)
    · exact od_ydel (by omega) J.2.1 (by omega) hk hf ht ho hg rfl e2 e3 e4 e5 rfl rfl rfl (st' := st) (sq' := sq) (hp' := hp) (nx' := nx) (fun _ => hP) (fun a => absurd hu a) (fun a => absurd hu a) (fun a => absurd hu a) (fun a => absurd hu a.1) (fun a => absurd hu a.1) (fun a => absurd hu a.1) (fun a => absurd hu a.1) (fun a => absurd hu a.1) (fun a => absurd hu a.1) (fun a => absurd hu a.1)
  · by_cases q3 : ms (8 * k) = 3
    · refine od_Om (od_rep N R (z - 1) mx (ms (8 * k)) (nI f) (nI t) (nI o) (nI g) (ms (8 * k + 5)) (ms (8 * k + 6)) (ms (8 * k + 7)) up seen st sq hp nx pc own ic io it (od_sh ms (8 * k) (8 * (z - 1))) pre box Jd B hf ht ho hg) (fun P hP => ?_) (fun P hP => ?_)
      · exact od_xdel (by omega) hk (by omega) (by omega) rfl e2 e3 e4 e5 rfl rfl rfl (fun a => absurd a hu) (fun _ _ => hP) (fun _ e => absurd (q3.symm.trans e) (by decide)) (fun _ e => absurd (q3.symm.trans e) (by decide)) (fun _ a b c => absurd q3 a)
      · exact od_ydel (by omega) J.2.1 (by omega) hk hf ht ho hg rfl e2 e3 e4 e5 rfl rfl rfl (st' := st) (sq' := sq) (hp' := hp) (nx' := nx) (fun a => absurd a hu) (fun _ _ => hP) (fun _ e => absurd (q3.symm.trans e) (by decide)) (fun _ e => absurd (q3.symm.trans e) (by decide)) (fun a => absurd q3 a.2.1) (fun a => absurd q3 a.2.1) (fun a => absurd q3 a.2.1) (fun a => absurd q3 a.2.1) (fun a => absurd q3 a.2.1) (fun a => absurd q3 a.2.1) (fun a => absurd q3 a.2.1)
    by_cases q4 : ms (8 * k) = 4
    · refine od_Om (od_err N R (z - 1) mx (ms (8 * k)) (nI f) (nI t) (nI o) (nI g) (ms (8 * k + 5)) (ms (8 * k + 6)) (ms (8 * k + 7)) up seen st sq hp nx pc own ic io it (od_sh ms (8 * k) (8 * (z - 1))) pre box Jd B hf ht hg) (fun P hP => ?_) (fun P hP => ?_)
      · exact od_xdel (by omega) hk (by omega) (by omega) rfl e2 e3 e4 e5 rfl rfl rfl (fun a => absurd a hu) (fun _ e => absurd (q4.symm.trans e) (by decide)) (fun _ _ => hP) (fun _ e => absurd (q4.symm.trans e) (by decide)) (fun _ a b c => absurd q4 b)
      · exact od_ydel (by omega) J.2.1 (by omega) hk hf ht ho hg rfl e2 e3 e4 e5 rfl rfl rfl (st' := st) (sq' := sq) (hp' := hp) (nx' := nx) (fun a => absurd a hu) (fun _ e => absurd (q4.symm.trans e) (by decide)) (fun _ _ => hP) (fun _ e => absurd (q4.symm.trans e) (by decide)) (fun a => absurd q4 a.2.2.1) (fun a => absurd q4 a.2.2.1) (fun a => absurd q4 a.2.2.1) (fun a => absurd q4 a.2.2.1) (fun a => absurd q4 a.2.2.1) (fun a => absurd q4 a.2.2.1) (fun a => absurd q4 a.2.2.1)
    by_cases q5 : ms (8 * k) = 5
    · refine od_Om (od_dat N R (z - 1) mx (ms (8 * k)) (nI f) (nI t) (nI o) (nI g) (ms (8 * k + 5)) (ms (8 * k + 6)) (ms (8 * k + 7)) up seen st sq hp nx pc own ic io it (od_sh ms (8 * k) (8 * (z - 1))) pre box Jd B hf ht ho hg) (fun P hP => ?_) (fun P hP => ?_)
      · exact od_xdel (by omega) hk (by omega) (by omega) rfl e2 e3 e4 e5 rfl rfl rfl (fun a => absurd a hu) (fun _ e => absurd (q5.symm.trans e) (by decide)) (fun _ e => absurd (q5.symm.trans e) (by decide)) (fun _ _ => hP) (fun _ a b c => absurd q5 c)
      · exact od_ydel (by omega) J.2.1 (by omega) hk hf ht ho hg rfl e2 e3 e4 e5 rfl rfl rfl (st' := st) (sq' := sq) (hp' := hp) (nx' := nx) (fun a => absurd a hu) (fun _ e => absurd (q5.symm.trans e) (by decide)) (fun _ e => absurd (q5.symm.trans e) (by decide)) (fun _ _ => hP) (fun a => absurd q5 a.2.2.2) (fun a => absurd q5 a.2.2.2) (fun a => absurd q5 a.2.2.2) (fun a => absurd q5 a.2.2.2) (fun a => absurd q5 a.2.2.2) (fun a => absurd q5 a.2.2.2) (fun a => absurd q5 a.2.2.2)
    obtain ⟨st', sq', hp', nx', J', hX, hY⟩ := od_learn N R (z - 1) mx (ms (8 * k)) (nI f) (nI t) (nI o) (nI g) (ms (8 * k + 5)) (ms (8 * k + 6)) (ms (8 * k + 7)) up seen st sq hp nx pc own ic io it (od_sh ms (8 * k) (8 * (z - 1))) pre box Jd ht ho hf (ms (8 * k + 5)) (ms (8 * k + 6) + 1)
    by_cases hs : seen (8 * t + o) < ms (8 * k + 5)
    · by_cases e : t = g
      · subst e
        by_cases hx : ms (8 * k + 7) ≤ mx
        · by_cases hw : ms (8 * k + 7) ≤ own t
          · refine od_Om (od_a41 N R (z - 1) mx (ms (8 * k)) (nI f) (nI t) (nI o) (nI t) (ms (8 * k + 5)) (ms (8 * k + 6)) (ms (8 * k + 7)) up (upd seen (8 * t + o) (ms (8 * k + 5))) st' sq' hp' nx' pc own ic io it (od_sh ms (8 * k) (8 * (z - 1))) pre box J' B ht ho) (fun P hP => ?_) (fun P hP => ?_)
            · refine od_xdel (by omega) hk (by omega) (by omega) rfl e2 e3 e4 e5 rfl rfl rfl (fun a => absurd a hu) (fun _ e => absurd e q3) (fun _ e => absurd e q4) (fun _ e => absurd e q5) (fun _ _ _ _ => ?_)
              exact od_xreq (by omega) (by omega) (by omega) hX (fun a => absurd hs a) (fun _ _ a => absurd hx a) (fun _ _ _ _ => hP) (fun _ _ _ a => absurd hw a) (fun _ a => absurd rfl a) (fun _ a => absurd rfl a)
            · exact od_ydel (by omega) J.2.1 (by omega) hk hf ht ho hg rfl e2 e3 e4 e5 rfl rfl rfl (fun a => absurd a hu) (fun _ e => absurd e q3) (fun _ e => absurd e q4) (fun _ e => absurd e q5) (fun _ => hY) (fun _ a => absurd hs a) (fun _ _ _ a => absurd hx a) (fun _ _ _ _ _ => hP) (fun _ _ _ _ a => absurd hw a) (fun _ _ a => absurd rfl a) (fun _ _ a => absurd rfl a)
          · refine od_Om (od_a41 N R (z - 1) mx (ms (8 * k)) (nI f) (nI t) (nI o) (nI t) (ms (8 * k + 5)) (ms (8 * k + 6)) (ms (8 * k + 7)) up (upd seen (8 * t + o) (ms (8 * k + 5))) st' sq' hp' nx' pc (upd own t (ms (8 * k + 7))) ic io it (od_sh ms (8 * k) (8 * (z - 1))) pre box J' B ht ho) (fun P hP => ?_) (fun P hP => ?_)
            · refine od_xdel (by omega) hk (by omega) (by omega) rfl e2 e3 e4 e5 rfl rfl rfl (fun a => absurd a hu) (fun _ e => absurd e q3) (fun _ e => absurd e q4) (fun _ e => absurd e q5) (fun _ _ _ _ => ?_)
              exact od_xreq (by omega) (by omega) (by omega) hX (fun a => absurd hs a) (fun _ _ a => absurd hx a) (fun _ _ _ a => absurd a hw) (fun _ _ _ _ => hP) (fun _ a => absurd rfl a) (fun _ a => absurd rfl a)
            · exact od_ydel (by omega) J.2.1 (by omega) hk hf ht ho hg rfl e2 e3 e4 e5 rfl rfl rfl (fun a => absurd a hu) (fun _ e => absurd e q3) (fun _ e => absurd e q4) (fun _ e => absurd e q5) (fun _ => hY) (fun _ a => absurd hs a) (fun _ _ _ a => absurd hx a) (fun _ _ _ _ a => absurd a hw) (fun _ _ _ _ _ => hP) (fun _ _ a => absurd rfl a) (fun _ _ a => absurd rfl a)
        · refine od_Oi 2 N R (z - 1) mx (ms (8 * k)) (nI f) (nI t) (nI o) (nI t) (ms (8 * k + 5)) (ms (8 * k + 6)) (ms (8 * k + 7)) up (upd seen (8 * t + o) (ms (8 * k + 5))) st' sq' hp' nx' pc own ic io it (od_sh ms (8 * k) (8 * (z - 1))) pre box J' B (fun P hP => ?_) (fun P hP => ?_)
          · refine od_xdel (by omega) hk (by omega) (by omega) rfl e2 e3 e4 e5 rfl rfl rfl (fun a => absurd a hu) (fun _ e => absurd e q3) (fun _ e => absurd e q4) (fun _ e => absurd e q5) (fun _ _ _ _ => ?_)
            exact od_xreq (by omega) (by omega) (by omega) hX (fun a => absurd hs a) (fun _ _ _ => hP) (fun _ _ a => absurd a hx) (fun _ _ a => absurd a hx) (fun _ a => absurd rfl a) (fun _ a => absurd rfl a)
          · exact od_ydel (by omega) J.2.1 (by omega) hk hf ht ho hg rfl e2 e3 e4 e5 rfl rfl rfl (fun a => absurd a hu) (fun _ e => absurd e q3) (fun _ e => absurd e q4) (fun _ e => absurd e q5) (fun _ => hY) (fun _ a => absurd hs a) (fun _ _ _ _ => hP) (fun _ _ _ a => absurd a hx) (fun _ _ _ a => absurd a hx) (fun _ _ a => absurd rfl a) (fun _ _ a => absurd rfl a)
      · by_cases hc : ms (8 * k) = 1 ∧ st' (8 * t + g) = 2 ∧ ¬ sq' (8 * t + g) < ms (8 * k + 7)
        · refine od_Om (od_ans N R (z - 1) mx (ms (8 * k)) (nI f) (nI t) (nI o) (nI g) (ms (8 * k + 5)) (ms (8 * k + 6)) (ms (8 * k + 7)) up (upd seen (8 * t + o) (ms (8 * k + 5))) st' sq' hp' nx' pc own ic io it (od_sh ms (8 * k) (8 * (z - 1))) pre box J' B ht ho hg (fun _ => hc.2.1) (sq' (8 * t + g)) (hp' (8 * t + g))) (fun P hP => ?_) (fun P hP => ?_)
          · refine od_xdel (by omega) hk (by omega) (by omega) rfl e2 e3 e4 e5 rfl rfl rfl (fun a => absurd a hu) (fun _ e => absurd e q3) (fun _ e => absurd e q4) (fun _ e => absurd e q5) (fun _ _ _ _ => ?_)
            exact od_xreq (by omega) (by omega) (by omega) hX (fun a => absurd hs a) (fun _ a => absurd a e) (fun _ a => absurd a e) (fun _ a => absurd a e) (fun _ _ _ _ _ => hP) (fun _ _ a => absurd hc a)
          · exact od_ydel (by omega) J.2.1 (by omega) hk hf ht ho hg rfl e2 e3 e4 e5 rfl rfl rfl (fun a => absurd a hu) (fun _ e => absurd e q3) (fun _ e => absurd e q4) (fun _ e => absurd e q5) (fun _ => hY) (fun _ a => absurd hs a) (fun _ _ a => absurd a e) (fun _ _ a => absurd a e) (fun _ _ a => absurd a e) (fun _ _ _ _ _ _ => hP) (fun _ _ _ a => absurd hc a)
        · refine od_Om (od_rel N R (z - 1) mx (ms (8 * k)) (nI f) (nI t) (nI o) (nI g) (ms (8 * k + 5)) (ms (8 * k + 6)) (ms (8 * k + 7)) up (upd seen (8 * t + o) (ms (8 * k + 5))) st' sq' hp' nx' pc own ic io it (od_sh ms (8 * k) (8 * (z - 1))) pre box J' B hf ht ho hg) (fun P hP => ?_) (fun P hP => ?_)
          · refine od_xdel (by omega) hk (by omega) (by omega) rfl e2 e3 e4 e5 rfl rfl rfl (fun a => absurd a hu) (fun _ e => absurd e q3) (fun _ e => absurd e q4) (fun _ e => absurd e q5) (fun _ _ _ _ => ?_)
            exact od_xreq (by omega) (by omega) (by omega) hX (fun a => absurd hs a) (fun _ a => absurd a e) (fun _ a => absurd a e) (fun _ a => absurd a e) (fun _ _ a b d => absurd ⟨a, b, d⟩ hc) (fun _ _ _ => hP)
          · exact od_ydel (by omega) J.2.1 (by omega) hk hf ht ho hg rfl e2 e3 e4 e5 rfl rfl rfl (fun a => absurd a hu) (fun _ e => absurd e q3) (fun _ e => absurd e q4) (fun _ e => absurd e q5) (fun _ => hY) (fun _ a => absurd hs a) (fun _ _ a => absurd a e) (fun _ _ a => absurd a e) (fun _ _ a => absurd a e) (fun _ _ _ a b d => absurd ⟨a, b, d⟩ hc) (fun _ _ _ _ => hP)
    · refine od_Oi 2 N R (z - 1) mx (ms (8 * k)) (nI f) (nI t) (nI o) (nI g) (ms (8 * k + 5)) (ms (8 * k + 6)) (ms (8 * k + 7)) up seen st' sq' hp' nx' pc own ic io it (od_sh ms (8 * k) (8 * (z - 1))) pre box J' B (fun P hP => ?_) (fun P hP => ?_)
      · refine od_xdel (by omega) hk (by omega) (by omega) rfl e2 e3 e4 e5 rfl rfl rfl (fun a => absurd a hu) (fun _ e => absurd e q3) (fun _ e => absurd e q4) (fun _ e => absurd e q5) (fun _ _ _ _ => ?_)
        exact od_xreq (by omega) (by omega) (by omega) hX (fun _ => hP) (fun a => absurd a hs) (fun a => absurd a hs) (fun a => absurd a hs) (fun a => absurd a hs) (fun a => absurd a hs)
      · exact od_ydel (by omega) J.2.1 (by omega) hk hf ht ho hg rfl e2 e3 e4 e5 rfl rfl rfl (fun a => absurd a hu) (fun _ e => absurd e q3) (fun _ e => absurd e q4) (fun _ e => absurd e q5) (fun _ => hY) (fun _ _ => hP) (fun _ a => absurd a hs) (fun _ a => absurd a hs) (fun _ a => absurd a hs) (fun _ a => absurd a hs) (fun _ a => absurd a hs)
end
section
/-! the readers -/
def od_Q (WX WY : (Int32 → Prop) → Prop) : Prop := ∃ r : Int32, (∀ P : Int32 → Prop, P r → WX P) ∧ (∀ P : Int32 → Prop, P r → WY P)
theorem od_finq {WX WY : (Int32 → Prop) → Prop} {S : Prop} (h : od_Q WX WY) (s : S) : WX (fun r => WY (fun r' => r' = r ∧ S)) := by
  obtain ⟨r, hX, hY⟩ := h
  exact hX _ (hY _ ⟨rfl, s⟩)
/-! the sum of the precursors -/
theorem od_addor {x y : Int32} (h : x &&& y = 0) : x + y = x ||| y := by
  apply Int32.toBitVec_inj.mp
  rw [Int32.toBitVec_add, Int32.toBitVec_or]
  have h1 : x.toBitVec &&& y.toBitVec = 0#32 := by rw [← Int32.toBitVec_and, h]; rfl
  exact BitVec.add_eq_or_of_and_eq_zero _ _ h1
section od10
variable {N R z : Nat} {mx k1 k2 k3 k4 k5 k6 k7 k8 : Int32} {up seen st sq hp nx pc own ic io it ms pre box : Nat → Int32}
theorem od_y146 {P : Int32 → Prop} {e : Nat} {x1 x2 : Int32} (J : od_J N R z up st nx pc pre ms) (he : e < 64) (hne : ¬ x1 = x2) (h : P (pc e)) : ∀ (m p : Nat) (x5 : Int32), p + m = N → (∀ q, q < 32 → bt x5 q = (decide (q < p) && bt (pc e) q)) → wY_entry_146 P x1 x2 (nI e) (nI N) (nI R) mx (nI z) up own seen st sq hp nx pre box ms (m + 1) x5 (nI p) := by
  have hz := od_Jz J
  intro m
  induction m with
  | zero =>
    intro p x5 hp hx
    have ep : p = N := by omega
    subst ep
    have e5 : x5 = pc e := by
      refine b_ext (fun q hq => ?_)
      rw [hx q hq, J.2.2.2.1 e q he hq, ← Bool.and_assoc, Bool.and_self]
    rw [e5]
    exact br_t (nI_le (by omega) (by omega)) h
  | succ m ih =>
    intro p x5 hp hx
    have c : (nI (8 * e + p)).toNatClampNeg = 8 * e + p := nI_clamp (by omega)
    have hb := J.2.2.2.1 e p he (by omega)
    rw [decide_eq_true (by omega : p < N), Bool.true_and] at hb
    refine br_f (nI_ge (by omega) (by omega)) (br_f hne ?_)
    rw [od_ye, c]
    refine ⟨vp_in_nI (by omega) (by omega), br_c (fun h0 => ?_) (fun h0 => ?_)⟩
    · refine nm_r (nI_1 p) (ih (p + 1) x5 (by omega) (fun q hq => ?_))
      rw [decide_eq_true h0] at hb
      rw [hx q hq]
      by_cases eq : q = p
      · subst eq; rw [hb]; simp
      · by_cases l : q < p
        · rw [decide_eq_true l, decide_eq_true (by omega : q < p + 1)]
        · rw [decide_eq_false l, decide_eq_false (by omega : ¬ q < p + 1)]
    · rw [decide_eq_false h0] at hb
      refine nm_e (nm_r (nI_1 p) (ih (p + 1) _ (by omega) (fun q hq => ?_)))
      have hand : x5 &&& ((1 : Int32) <<< (nI p &&& 31)) = 0 := by
        rw [od_bit _ (by omega), hx p (by omega), decide_eq_false (by omega : ¬ p < p), Bool.false_and]
      rw [od_addor hand, b_or, hx q hq, od_b1 (by omega) hq]
      by_cases eq : q = p
      · subst eq; rw [hb]; simp
      · rw [decide_eq_false eq, Bool.or_false]
        by_cases l : q < p
        · rw [decide_eq_true l, decide_eq_true (by omega : q < p + 1)]
        · rw [decide_eq_false l, decide_eq_false (by omega : ¬ q < p + 1)]
theorem od_y146s {P : Int32 → Prop} {x1 x4 x5 : Int32} (hN : N ≤ 8) (h : P x5) : ∀ (m p : Nat), p + m = N → wY_entry_146 P x1 x1 x4 (nI N) (nI R) mx (nI z) up own seen st sq hp nx pre box ms (m + 1) x5 (nI p) := by
  intro m
  induction m with
  | zero => intro p hp; exact br_t (nI_le (by omega) (by omega)) h
  | succ m ih => intro p hp; exact br_f (nI_ge (by omega) (by omega)) (br_t rfl (nm_r (nI_1 p) (ih (p + 1) (by omega))))
end od10
theorem od_six {x : Int32} (h0 : ¬ x < 0) (h5 : x ≤ 5) : x = 0 ∨ x = 1 ∨ x = 2 ∨ x = 3 ∨ x = 4 ∨ x = 5 := by
  obtain ⟨j, hj, rfl⟩ := nI_of2 (M := 5) (n := 5) (by decide) h0 h5
  rcases (by omega : j = 0 ∨ j = 1 ∨ j = 2 ∨ j = 3 ∨ j = 4 ∨ j = 5) with rfl | rfl | rfl | rfl | rfl | rfl
  · exact Or.inl rfl
  · exact Or.inr (Or.inl rfl)
  · exact Or.inr (Or.inr (Or.inl rfl))
  · exact Or.inr (Or.inr (Or.inr (Or.inl rfl)))
  · exact Or.inr (Or.inr (Or.inr (Or.inr (Or.inl rfl))))
  · exact Or.inr (Or.inr (Or.inr (Or.inr (Or.inr rfl))))
section od10b
variable {N R z : Nat} {mx k1 k2 k3 k4 k5 k6 k7 k8 : Int32} {up seen st sq hp nx pc own ic io it ms pre box : Nat → Int32}
/-- the head of entry: good nodes, a good field -/
theorem od_xen {P : Int32 → Prop} {a b : Nat} {x r : Int32} (hN : N ≤ 8) (ha : a < N) (hb : b < N) (h0 : ¬ x < 0) (h5 : x ≤ 5) (hP : P r)
    (e5 : x = 5 → r = seen (8 * a + b))
    (e0 : a ≠ b → x = 0 → r = st (8 * a + b)) (e1 : a ≠ b → x = 1 → r = sq (8 * a + b)) (e2 : a ≠ b → x = 2 → r = hp (8 * a + b)) (e3 : a ≠ b → x = 3 → r = nx (8 * a + b)) (e4 : a ≠ b → x = 4 → r = pc (8 * a + b))
    (s0 : a = b → x = 0 → r = 3) (s1 : a = b → x = 1 → r = own a) (s2 : a = b → x = 2 → r = 0) (s3 : a = b → x = 3 → r = nI a) (s4 : a = b → x = 4 → r = 0) : wpX_entry P (nI N, nI R, mx, nI z, k1, k2, k3, k4, k5, k6, k7, k8, up, seen, st, sq, hp, nx, pc, own, ic, io, it, ms) (nI a) (nI b) x := by
  have c : (nI (8 * a + b)).toNatClampNeg = 8 * a + b := nI_clamp (by omega)
  have v : vp_in (nI (8 * a + b)) 64 := vp_in_nI (by omega) (by omega)
  have ca : (nI a).toNatClampNeg = a := nI_clamp (by omega)
  have va : vp_in (nI a) 8 := vp_in_nI (by omega) (by omega)
  unfold wpX_entry
  refine od_xg ha hN (br_f (by decide) ?_)
  refine od_xg hb hN (br_f (by decide) ?_)
  refine br_f h0 (br_t h5 ?_)
  refine od_xs ?_
  rw [c]
  rcases od_six h0 h5 with rfl | rfl | rfl | rfl | rfl | rfl
  · refine br_f (by decide) (br_c (fun e => ?_) (fun e => ?_))
    · have k := (nI_eq (by omega) (by omega)).mp e
      refine br_f (by decide) (br_f (by decide) (br_t rfl ?_))
      rw [← s0 k rfl]; exact hP
    · have k : a ≠ b := fun q => e (congrArg nI q)
      refine br_f (by decide) (br_f (by decide) (br_t rfl ⟨v, ?_⟩))
      rw [← e0 k rfl]; exact hP
  · refine br_f (by decide) (br_c (fun e => ?_) (fun e => ?_))
    · have k := (nI_eq (by omega) (by omega)).mp e
      refine br_f (by decide) (br_f (by decide) (br_f (by decide) (br_t rfl ⟨va, ?_⟩)))
      rw [ca, ← s1 k rfl]; exact hP
    · have k : a ≠ b := fun q => e (congrArg nI q)
      refine br_f (by decide) (br_f (by decide) (br_f (by decide) (br_t rfl ⟨v, ?_⟩)))
      rw [← e1 k rfl]; exact hP
  · refine br_f (by decide) (br_c (fun e => ?_) (fun e => ?_))
    · have k := (nI_eq (by omega) (by omega)).mp e
      refine br_f (by decide) (br_f (by decide) (br_f (by decide) (br_f (by decide) (br_t rfl ?_))))
      rw [← s2 k rfl]; exact hP
    · have k : a ≠ b := fun q => e (congrArg nI q)
      refine br_f (by decide) (br_f (by decide) (br_f (by decide) (br_f (by decide) (br_t rfl ⟨v, ?_⟩))))
      rw [← e2 k rfl]; exact hP
  · refine br_f (by decide) (br_c (fun e => ?_) (fun e => ?_))
    · have k := (nI_eq (by omega) (by omega)).mp e
      refine br_f (by decide) (br_f (by decide) (br_f (by decide) (br_f (by decide) (br_f (by decide) (br_t rfl ?_)))))
      rw [← s3 k rfl]; exact hP
    · have k : a ≠ b := fun q => e (congrArg nI q)
      refine br_f (by decide) (br_f (by decide) (br_f (by decide) (br_f (by decide) (br_f (by decide) (br_t rfl ⟨v, ?_⟩)))))
      rw [← e3 k rfl]; exact hP
  · refine br_f (by decide) (br_c (fun e => ?_) (fun e => ?_))
    · have k := (nI_eq (by omega) (by omega)).mp e
      refine br_f (by decide) (br_t (by decide) ?_)
      rw [← s4 k rfl]; exact hP
    · have k : a ≠ b := fun q => e (congrArg nI q)
      refine br_f (by decide) (br_t (by decide) ⟨v, ?_⟩)
      rw [← e4 k rfl]; exact hP
  · refine br_t rfl ⟨v, ?_⟩
    rw [← e5 rfl]; exact hP
theorem od_yen {P : Int32 → Prop} {a b : Nat} {x r : Int32} (J : od_J N R z up st nx pc pre ms) (ha : a < N) (hb : b < N) (h0 : ¬ x < 0) (h5 : x ≤ 5) (hP : P r)
    (e5 : x = 5 → r = seen (8 * a + b))
    (e0 : a ≠ b → x = 0 → r = st (8 * a + b)) (e1 : a ≠ b → x = 1 → r = sq (8 * a + b)) (e2 : a ≠ b → x = 2 → r = hp (8 * a + b)) (e3 : a ≠ b → x = 3 → r = nx (8 * a + b)) (e4 : a ≠ b → x = 4 → r = pc (8 * a + b))
    (s0 : a = b → x = 0 → r = 3) (s1 : a = b → x = 1 → r = own a) (s2 : a = b → x = 2 → r = 0) (s3 : a = b → x = 3 → r = nI a) (s4 : a = b → x = 4 → r = 0) : wpY_entry P (nI N, nI R, mx, nI z, up, own, seen, st, sq, hp, nx, pre, box, ms) (nI a) (nI b) x := by
  have hz := od_Jz J
  have c : (nI (8 * a + b)).toNatClampNeg = 8 * a + b := nI_clamp (by omega)
  have v : vp_in (nI (8 * a + b)) 64 := vp_in_nI (by omega) (by omega)
  have ca : (nI a).toNatClampNeg = a := nI_clamp (by omega)
  have va : vp_in (nI a) 8 := vp_in_nI (by omega) (by omega)
  unfold wpY_entry
  refine od_yg ha (by omega) (br_f (by decide) ?_)
  refine od_yg hb (by omega) (br_f (by decide) ?_)
  refine br_f h0 (br_t h5 ?_)
  refine nm_r (od_ye a b) ?_
  rw [c]
  rcases od_six h0 h5 with rfl | rfl | rfl | rfl | rfl | rfl
  · refine br_f (by decide) (br_t rfl (br_c (fun e => ?_) (fun e => ⟨v, ?_⟩)))
    · have k := (nI_eq (by omega) (by omega)).mp e
      rw [← s0 k rfl]; exact hP
    · have k : a ≠ b := fun q => e (congrArg nI q)
      rw [← e0 k rfl]; exact hP
  · refine br_f (by decide) (br_f (by decide) (br_t rfl (br_c (fun e => ⟨va, ?_⟩) (fun e => ⟨v, ?_⟩))))
    · have k := (nI_eq (by omega) (by omega)).mp e
      rw [ca, ← s1 k rfl]; exact hP
    · have k : a ≠ b := fun q => e (congrArg nI q)
      rw [← e1 k rfl]; exact hP
  · refine br_f (by decide) (br_f (by decide) (br_f (by decide) (br_t rfl (br_c (fun e => ?_) (fun e => ⟨v, ?_⟩)))))
    · have k := (nI_eq (by omega) (by omega)).mp e
      rw [← s2 k rfl]; exact hP
    · have k : a ≠ b := fun q => e (congrArg nI q)
      rw [← e2 k rfl]; exact hP
  · refine br_f (by decide) (br_f (by decide) (br_f (by decide) (br_f (by decide) (br_t rfl (br_c (fun e => ?_) (fun e => ⟨v, ?_⟩))))))
    · have k := (nI_eq (by omega) (by omega)).mp e
      rw [← s3 k rfl]; exact hP
    · have k : a ≠ b := fun q => e (congrArg nI q)
      rw [← e3 k rfl]; exact hP
  · refine br_f (by decide) (br_f (by decide) (br_f (by decide) (br_f (by decide) (br_f (by decide) ⟨N + 1, ?_⟩))))
    by_cases k : a = b
    · subst k
      rw [s4 rfl rfl] at hP
      exact od_y146s (by omega) hP N 0 (by omega)
    · rw [e4 k rfl] at hP
      refine od_y146 J (by omega) (fun e => k ((nI_eq (by omega) (by omega)).mp e)) hP N 0 0 (by omega) (fun q _ => ?_)
      rw [b_0, decide_eq_false (by omega : ¬ q < 0), Bool.false_and]
  · refine br_t rfl ⟨v, ?_⟩
    rw [← e5 rfl]; exact hP
end od10b
/-- what entry answers -/
def od_ev (seen st sq hp nx pc own : Nat → Int32) (a b : Nat) (x : Int32) : Int32 :=
  if x = 5 then seen (8 * a + b) else if a = b then (if x = 0 then 3 else if x = 1 then own a else if x = 3 then nI a else 0) else (if x = 0 then st (8 * a + b) else if x = 1 then sq (8 * a + b) else if x = 2 then hp (8 * a + b) else if x = 3 then nx (8 * a + b) else pc (8 * a + b))
theorem od_ent (N R z : Nat) (mx k1 k2 k3 k4 k5 k6 k7 k8 : Int32) (up seen st sq hp nx pc own ic io it ms pre box : Nat → Int32) (J : od_J N R z up st nx pc pre ms) (v1 v2 v3 : Int32) : od_Q (fun P => wpX_entry P (nI N, nI R, mx, nI z, k1, k2, k3, k4, k5, k6, k7, k8, up, seen, st, sq, hp, nx, pc, own, ic, io, it, ms) v1 v2 v3) (fun P => wpY_entry P (nI N, nI R, mx, nI z, up, own, seen, st, sq, hp, nx, pre, box, ms) v1 v2 v3) := by
  have hz := od_Jz J
  rcases od_one (N := N) (by omega) v1 with h | ⟨a, ha, rfl⟩
  · refine ⟨-1, fun P hP => ?_, fun P hP => ?_⟩
    · show wpX_entry P (nI N, nI R, mx, nI z, k1, k2, k3, k4, k5, k6, k7, k8, up, seen, st, sq, hp, nx, pc, own, ic, io, it, ms) _ _ _
      unfold wpX_entry
      exact od_xgb h (br_t rfl hP)
    · show wpY_entry P (nI N, nI R, mx, nI z, up, own, seen, st, sq, hp, nx, pre, box, ms) _ _ _
      unfold wpY_entry
      exact od_ygb h (br_t rfl hP)
  rcases od_one (N := N) (by omega) v2 with h | ⟨b, hb, rfl⟩
  · refine ⟨-1, fun P hP => ?_, fun P hP => ?_⟩
    · show wpX_entry P (nI N, nI R, mx, nI z, k1, k2, k3, k4, k5, k6, k7, k8, up, seen, st, sq, hp, nx, pc, own, ic, io, it, ms) _ _ _
      unfold wpX_entry
      refine od_xg ha (by omega) (br_f (by decide) ?_)
      exact od_xgb h (br_t rfl hP)
    · show wpY_entry P (nI N, nI R, mx, nI z, up, own, seen, st, sq, hp, nx, pre, box, ms) _ _ _
      unfold wpY_entry
      refine od_yg ha (by omega) (br_f (by decide) ?_)
      exact od_ygb h (br_t rfl hP)
  by_cases h0 : v3 < 0
  · refine ⟨-1, fun P hP => ?_, fun P hP => ?_⟩
    · show wpX_entry P (nI N, nI R, mx, nI z, k1, k2, k3, k4, k5, k6, k7, k8, up, seen, st, sq, hp, nx, pc, own, ic, io, it, ms) _ _ _
      unfold wpX_entry
      refine od_xg ha (by omega) (br_f (by decide) ?_)
      refine od_xg hb (by omega) (br_f (by decide) ?_)
      exact br_t h0 hP
    · show wpY_entry P (nI N, nI R, mx, nI z, up, own, seen, st, sq, hp, nx, pre, box, ms) _ _ _
      unfold wpY_entry
      refine od_yg ha (by omega) (br_f (by decide) ?_)
      refine od_yg hb (by omega) (br_f (by decide) ?_)
      exact br_t h0 hP
  by_cases h5 : v3 ≤ 5
  · refine ⟨od_ev seen st sq hp nx pc own a b v3, fun P hP => ?_, fun P hP => ?_⟩
    · refine od_xen (by omega) ha hb h0 h5 hP ?_ ?_ ?_ ?_ ?_ ?_ ?_ ?_ ?_ ?_ ?_
      · intro e; subst e; rfl
      · intro k e; subst e; exact (if_neg (by decide)).trans (if_neg k)
      · intro k e; subst e; exact (if_neg (by decide)).trans (if_neg k)
      · intro k e; subst e; exact (if_neg (by decide)).trans (if_neg k)
      · intro k e; subst e; exact (if_neg (by decide)).trans (if_neg k)
      · intro k e; subst e; exact (if_neg (by decide)).trans (if_neg k)
      · intro k e; subst e; exact (if_neg (by decide)).trans (if_pos k)
      · intro k e; subst e; exact (if_neg (by decide)).trans (if_pos k)
      · intro k e; subst e; exact (if_neg (by decide)).trans (if_pos k)
      · intro k e; subst e; exact (if_neg (by decide)).trans (if_pos k)
      · intro k e; subst e; exact (if_neg (by decide)).trans (if_pos k)
    · refine od_yen J ha hb h0 h5 hP ?_ ?_ ?_ ?_ ?_ ?_ ?_ ?_ ?_ ?_ ?_
      · intro e; subst e; rfl
      · intro k e; subst e; exact (if_neg (by decide)).trans (if_neg k)
      · intro k e; subst e; exact (if_neg (by decide)).trans (if_neg k)
      · intro k e; subst e; exact (if_neg (by decide)).trans (if_neg k)
      · intro k e; subst e; exact (if_neg (by decide)).trans (if_neg k)
      · intro k e; subst e; exact (if_neg (by decide)).trans (if_neg k)
      · intro k e; subst e; exact (if_neg (by decide)).trans (if_pos k)
      · intro k e; subst e; exact (if_neg (by decide)).trans (if_pos k)
      · intro k e; subst e; exact (if_neg (by decide)).trans (if_pos k)
      · intro k e; subst e; exact (if_neg (by decide)).trans (if_pos k)
      · intro k e; subst e; exact (if_neg (by decide)).trans (if_pos k)
  · refine ⟨-1, fun P hP => ?_, fun P hP => ?_⟩
    · show wpX_entry P (nI N, nI R, mx, nI z, k1, k2, k3, k4, k5, k6, k7, k8, up, seen, st, sq, hp, nx, pc, own, ic, io, it, ms) _ _ _
      unfold wpX_entry
      refine od_xg ha (by omega) (br_f (by decide) ?_)
      refine od_xg hb (by omega) (br_f (by decide) ?_)
      exact br_f h0 (br_f h5 hP)
    · show wpY_entry P (nI N, nI R, mx, nI z, up, own, seen, st, sq, hp, nx, pre, box, ms) _ _ _
      unfold wpY_entry
      refine od_yg ha (by omega) (br_f (by decide) ?_)
      refine od_yg hb (by omega) (br_f (by decide) ?_)
      exact br_f h0 (br_f h5 hP)
end
section
/-! trace, carried: the walk along the tables -/
def od_go (st nx : Nat → Int32) (d c : Nat) : Nat := if c = d then c else if st (8 * c + d) = 2 then (nx (8 * c + d)).toNatClampNeg else c
def od_at (st nx : Nat → Int32) (d : Nat) : Nat → Nat → Nat
  | 0, c => c
  | m + 1, c => od_at st nx d m (od_go st nx d c)
theorem od_at_s (st nx : Nat → Int32) (d : Nat) : ∀ m c, od_at st nx d (m + 1) c = od_go st nx d (od_at st nx d m c) := by
  intro m
  induction m with
  | zero => intro c; rfl
  | succ m ih => intro c; exact ih (od_go st nx d c)
theorem od_go_e {st nx : Nat → Int32} {d c : Nat} (h : c = d) : od_go st nx d c = c := if_pos h
theorem od_go_2 {st nx : Nat → Int32} {d c : Nat} (h : c ≠ d) (h2 : st (8 * c + d) = 2) : od_go st nx d c = (nx (8 * c + d)).toNatClampNeg := (if_neg h).trans (if_pos h2)
theorem od_go_n {st nx : Nat → Int32} {d c : Nat} (h2 : ¬ st (8 * c + d) = 2) : od_go st nx d c = c := by
  unfold od_go
  by_cases h : c = d
  · exact if_pos h
  · rw [if_neg h, if_neg h2]
section od11
variable {N R z : Nat} {mx k1 k2 k3 k4 k5 k6 k7 k8 : Int32} {up seen st sq hp nx pc own ic io it ms pre box : Nat → Int32}
theorem od_go_lt (J : od_J N R z up st nx pc pre ms) {d c : Nat} (hd : d < N) (hc : c < N) : od_go st nx d c < N := by
  have hz := od_Jz J
  by_cases h : c = d
  · rw [od_go_e h]; exact hc
  · by_cases h2 : st (8 * c + d) = 2
    · obtain ⟨n, hn, en⟩ := od_Jnx J hc hd h2
      rw [od_go_2 h h2, en, nI_clamp (by omega)]; exact hn
    · rw [od_go_n h2]; exact hc
theorem od_at_lt (J : od_J N R z up st nx pc pre ms) {d : Nat} (hd : d < N) : ∀ m c, c < N → od_at st nx d m c < N := by
  intro m
  induction m with
  | zero => intro c hc; exact hc
  | succ m ih => intro c hc; exact ih _ (od_go_lt J hd hc)
theorem od_yat6 {P : Int32 → Prop} (J : od_J N R z up st nx pc pre ms) {d M : Nat} (hd : d < N) (hM : M ≤ 8) : ∀ m j c, j + m = M → c < N → P (nI (od_at st nx d m c)) → wY_at_6 P (nI d) (nI M) (nI N) (nI R) mx (nI z) up own seen st sq hp nx pre box ms (m + 1) (nI c) (nI j) := by
  have hz := od_Jz J
  intro m
  induction m with
  | zero => intro j c hj hc h; exact br_t (nI_le (by omega) (by omega)) h
  | succ m ih =>
    intro j c hj hc h
    have cc : (nI (8 * c + d)).toNatClampNeg = 8 * c + d := nI_clamp (by omega)
    have v : vp_in (nI (8 * c + d)) 64 := vp_in_nI (by omega) (by omega)
    have h' : P (nI (od_at st nx d m (od_go st nx d c))) := h
    refine br_f (nI_ge (by omega) (by omega)) ?_
    by_cases e : c = d
    · refine br_t (congrArg nI e) (nm_r (nI_1 j) (ih (j + 1) c (by omega) hc ?_))
      rw [od_go_e e] at h'; exact h'
    · refine br_f (od_nn (by omega) (by omega) e) ?_
      rw [od_ye, cc]
      by_cases h2 : st (8 * c + d) = 2
      · obtain ⟨n, hn, en⟩ := od_Jnx J hc hd h2
        refine ⟨v, br_t h2 ⟨v, nm_r en (nm_r (nI_1 j) (ih (j + 1) n (by omega) hn ?_))⟩⟩
        rw [od_go_2 e h2, en, nI_clamp (by omega)] at h'; exact h'
      · refine ⟨v, br_f h2 (nm_r (nI_1 j) (ih (j + 1) c (by omega) hc ?_))⟩
        rw [od_go_n h2] at h'; exact h'
theorem od_yat {P : Int32 → Prop} (J : od_J N R z up st nx pc pre ms) {d M c : Nat} (hd : d < N) (hM : M ≤ 8) (hc : c < N) (h : P (nI (od_at st nx d M c))) : wpY_at P (nI N, nI R, mx, nI z, up, own, seen, st, sq, hp, nx, pre, box, ms) (nI c) (nI d) (nI M) := by
  unfold wpY_at
  exact ⟨M + 1, od_yat6 J hd hM M 0 c (by omega) hc h⟩
theorem od_xcm {P : Int32 → Prop} {c d : Nat} (hc : c < 8) (hd : d < 8) (h0 : c = d → P 0) (h1 : c ≠ d → ¬ st (8 * c + d) = 2 → P 0) (h2 : c ≠ d → st (8 * c + d) = 2 → P 1) : wpX_canMove P (nI N, nI R, mx, nI z, k1, k2, k3, k4, k5, k6, k7, k8, up, seen, st, sq, hp, nx, pc, own, ic, io, it, ms) (nI c) (nI d) := by
  have cc : (nI (8 * c + d)).toNatClampNeg = 8 * c + d := nI_clamp (by omega)
  have v : vp_in (nI (8 * c + d)) 64 := vp_in_nI (by omega) (by omega)
  unfold wpX_canMove
  by_cases e : c = d
  · exact br_t (congrArg nI e) (h0 e)
  · refine br_f (od_nn hc hd e) ?_
    refine od_xs ?_
    rw [cc]
    exact ⟨v, br_c (fun k => h2 e k) (fun k => h1 e k)⟩
/-- the reference's end -/
theorem od_ytf {P : Int32 → Prop} (J : od_J N R z up st nx pc pre ms) {s d c n : Nat} (hs : s < N) (hd : d < N) (hc : od_at st nx d N s = c) (h6 : st (8 * c + d) = 2 → P (-6)) (h2 : ¬ st (8 * c + d) = 2 → P (-2)) : wY_trace_20 P (nI s) (nI d) (nI N) (nI R) mx (nI z) up own seen st sq hp nx pre box ms (n + 1) (nI (N + 1)) := by
  have hz := od_Jz J
  have hl := od_at_lt J hd N s hs
  rw [hc] at hl
  have cc : (nI (8 * c + d)).toNatClampNeg = 8 * c + d := nI_clamp (by omega)
  refine br_t (nI_lt (by omega) (by omega)) ?_
  refine od_yat J hd (by omega) hs ?_
  rw [hc, od_ye, cc]
  exact ⟨vp_in_nI (by omega) (by omega), br_c h6 h2⟩
theorem od_yts {P : Int32 → Prop} (J : od_J N R z up st nx pc pre ms) {s d c : Nat} (hs : s < N) (hd : d < N) (hcd : c ≠ d) (h2 : ¬ st (8 * c + d) = 2) (hP : P (-2)) : ∀ m j, j + m = N → od_at st nx d j s = c → wY_trace_20 P (nI s) (nI d) (nI N) (nI R) mx (nI z) up own seen st sq hp nx pre box ms (m + 2) (nI j) := by
  have hz := od_Jz J
  intro m
  induction m with
  | zero =>
    intro j hj e
    have ej : j = N := by omega
    subst ej
    have hl := od_at_lt J hd j s hs
    rw [e] at hl
    refine br_f (nI_nlt (by omega) (by omega)) ?_
    refine od_yat J hd (by omega) hs ?_
    rw [e]
    refine br_f (od_nn (by omega) (by omega) hcd) (nm_r (nI_1 j) ?_)
    exact od_ytf J hs hd e (fun k => absurd k h2) (fun _ => hP)
  | succ m ih =>
    intro j hj e
    have hl := od_at_lt J hd j s hs
    rw [e] at hl
    refine br_f (nI_nlt (by omega) (by omega)) ?_
    refine od_yat J hd (by omega) hs ?_
    rw [e]
    refine br_f (od_nn (by omega) (by omega) hcd) (nm_r (nI_1 j) ?_)
    refine ih (j + 1) (by omega) ?_
    rw [od_at_s, e, od_go_n h2]
/-- X's end -/
theorem od_xte {P : Int32 → Prop} {d c : Nat} {x4 : Int32} (hc : c < 8) (hd : d < 8) (h0 : c = d → P x4) (h1 : c ≠ d → ¬ st (8 * c + d) = 2 → P (-2)) (h2 : c ≠ d → st (8 * c + d) = 2 → P (-6)) : wX_trace_59 P (nI d) (nI c) x4 (nI N) (nI R) mx (nI z) k1 k2 k3 k4 k5 k6 k7 k8 up seen st sq hp nx pc own ic io it ms := by
  unfold wX_trace_59
  by_cases e : c = d
  · exact br_t (congrArg nI e) (h0 e)
  · refine br_f (od_nn hc hd e) ?_
    refine od_xcm hc hd (fun k => absurd k e) (fun _ k => br_t rfl (h1 e k)) (fun _ k => br_f (by decide) (h2 e k))
end od11
theorem od_tr (N R z : Nat) (mx k1 k2 k3 k4 k5 k6 k7 k8 : Int32) (up seen st sq hp nx pc own ic io it ms pre box : Nat → Int32) (J : od_J N R z up st nx pc pre ms) {s d : Nat} (hs : s < N) (hd : d < N) : ∀ m j c, j + m = N → od_at st nx d j s = c → ∃ r : Int32, (∀ P : Int32 → Prop, P r → wX_trace_23 P (nI d) (nI N) (nI R) mx (nI z) k1 k2 k3 k4 k5 k6 k7 k8 up seen st sq hp nx pc own ic io it ms (m + 1) (nI c) (nI j)) ∧ (∀ P : Int32 → Prop, P r → wY_trace_20 P (nI s) (nI d) (nI N) (nI R) mx (nI z) up own seen st sq hp nx pre box ms (m + 2) (nI j)) := by
  have hz := od_Jz J
  intro m
  induction m with
  | zero =>
    intro j c hj e
    have ej : j = N := by omega
    subst ej
    have hl := od_at_lt J hd j s hs
    rw [e] at hl
    by_cases ec : c = d
    · refine ⟨nI j, fun P hP => br_t (nI_le (by omega) (by omega)) ?_, fun P hP => br_f (nI_nlt (by omega) (by omega)) ?_⟩
      · exact od_xte (by omega) (by omega) (fun _ => hP) (fun k => absurd ec k) (fun k => absurd ec k)
      · refine od_yat J hd (by omega) hs ?_
        rw [e]
        exact br_t (congrArg nI ec) hP
    · by_cases h2 : st (8 * c + d) = 2
      · refine ⟨-6, fun P hP => br_t (nI_le (by omega) (by omega)) ?_, fun P hP => br_f (nI_nlt (by omega) (by omega)) ?_⟩
        · exact od_xte (by omega) (by omega) (fun k => absurd k ec) (fun _ k => absurd h2 k) (fun _ _ => hP)
        · refine od_yat J hd (by omega) hs ?_
          rw [e]
          refine br_f (od_nn (by omega) (by omega) ec) (nm_r (nI_1 j) ?_)
          exact od_ytf J hs hd e (fun _ => hP) (fun k => absurd h2 k)
      · refine ⟨-2, fun P hP => br_t (nI_le (by omega) (by omega)) ?_, fun P hP => ?_⟩
        · exact od_xte (by omega) (by omega) (fun k => absurd k ec) (fun _ _ => hP) (fun _ k => absurd k h2)
        · exact od_yts J hs hd ec h2 hP 0 j (by omega) e
  | succ m ih =>
    intro j c hj e
    have hl := od_at_lt J hd j s hs
    rw [e] at hl
    by_cases ec : c = d
    · refine ⟨nI j, fun P hP => br_f (nI_ge (by omega) (by omega)) ?_, fun P hP => br_f (nI_nlt (by omega) (by omega)) ?_⟩
      · refine od_xcm (by omega) (by omega) (fun _ => br_t rfl ?_) (fun k => absurd ec k) (fun k => absurd ec k)
        exact od_xte (by omega) (by omega) (fun _ => hP) (fun k => absurd ec k) (fun k => absurd ec k)
      · refine od_yat J hd (by omega) hs ?_
        rw [e]
        exact br_t (congrArg nI ec) hP
    · by_cases h2 : st (8 * c + d) = 2
      · obtain ⟨n, hn, en⟩ := od_Jnx J hl hd h2
        have cc : (nI (8 * c + d)).toNatClampNeg = 8 * c + d := nI_clamp (by omega)
        have v : vp_in (nI (8 * c + d)) 64 := vp_in_nI (by omega) (by omega)
        have e' : od_at st nx d (j + 1) s = n := by rw [od_at_s, e, od_go_2 ec h2, en, nI_clamp (by omega)]
        obtain ⟨r, hX, hY⟩ := ih (j + 1) n (by omega) e'
        refine ⟨r, fun P hP => br_f (nI_ge (by omega) (by omega)) ?_, fun P hP => br_f (nI_nlt (by omega) (by omega)) ?_⟩
        · refine od_xcm (by omega) (by omega) (fun k => absurd k ec) (fun _ k => absurd h2 k) (fun _ _ => br_f (by decide) ?_)
          refine od_xs ?_
          rw [cc]
          exact ⟨v, nm_r en (nm_r (nI_1 j) (hX P hP))⟩
        · refine od_yat J hd (by omega) hs ?_
          rw [e]
          exact br_f (od_nn (by omega) (by omega) ec) (nm_r (nI_1 j) (hY P hP))
      · refine ⟨-2, fun P hP => br_f (nI_ge (by omega) (by omega)) ?_, fun P hP => ?_⟩
        · refine od_xcm (by omega) (by omega) (fun k => absurd k ec) (fun _ _ => br_t rfl ?_) (fun _ k => absurd k h2)
          exact od_xte (by omega) (by omega) (fun k => absurd k ec) (fun _ _ => hP) (fun _ k => absurd k h2)
        · exact od_yts J hs hd ec h2 hP (m + 1) j (by omega) e
theorem od_trace (N R z : Nat) (mx k1 k2 k3 k4 k5 k6 k7 k8 : Int32) (up seen st sq hp nx pc own ic io it ms pre box : Nat → Int32) (J : od_J N R z up st nx pc pre ms) (v1 v2 : Int32) : od_Q (fun P => wpX_trace P (nI N, nI R, mx, nI z, k1, k2, k3, k4, k5, k6, k7, k8, up, seen, st, sq, hp, nx, pc, own, ic, io, it, ms) v1 v2) (fun P => wpY_trace P (nI N, nI R, mx, nI z, up, own, seen, st, sq, hp, nx, pre, box, ms) v1 v2) := by
  have hz := od_Jz J
  rcases od_one (N := N) (by omega) v1 with h | ⟨a, ha, rfl⟩
  · refine ⟨-1, fun P hP => ?_, fun P hP => ?_⟩
    · show wpX_trace P (nI N, nI R, mx, nI z, k1, k2, k3, k4, k5, k6, k7, k8, up, seen, st, sq, hp, nx, pc, own, ic, io, it, ms) _ _
      unfold wpX_trace
      exact od_xgb h (br_t rfl hP)
    · show wpY_trace P (nI N, nI R, mx, nI z, up, own, seen, st, sq, hp, nx, pre, box, ms) _ _
      unfold wpY_trace
      exact od_ygb h (br_t rfl hP)
  rcases od_one (N := N) (by omega) v2 with h | ⟨b, hb, rfl⟩
  · refine ⟨-1, fun P hP => ?_, fun P hP => ?_⟩
    · show wpX_trace P (nI N, nI R, mx, nI z, k1, k2, k3, k4, k5, k6, k7, k8, up, seen, st, sq, hp, nx, pc, own, ic, io, it, ms) _ _
      unfold wpX_trace
      refine od_xg ha (by omega) (br_f (by decide) ?_)
      exact od_xgb h (br_t rfl hP)
    · show wpY_trace P (nI N, nI R, mx, nI z, up, own, seen, st, sq, hp, nx, pre, box, ms) _ _
      unfold wpY_trace
      refine od_yg ha (by omega) (br_f (by decide) ?_)
      exact od_ygb h (br_t rfl hP)
  obtain ⟨r, hX, hY⟩ := od_tr N R z mx k1 k2 k3 k4 k5 k6 k7 k8 up seen st sq hp nx pc own ic io it ms pre box J ha hb N 0 a (by omega) rfl
  refine ⟨r, fun P hP => ?_, fun P hP => ?_⟩
  · show wpX_trace P (nI N, nI R, mx, nI z, k1, k2, k3, k4, k5, k6, k7, k8, up, seen, st, sq, hp, nx, pc, own, ic, io, it, ms) _ _
    unfold wpX_trace
    refine od_xg ha (by omega) (br_f (by decide) ?_)
    refine od_xg hb (by omega) (br_f (by decide) ?_)
    exact ⟨N + 1, hX P hP⟩
  · show wpY_trace P (nI N, nI R, mx, nI z, up, own, seen, st, sq, hp, nx, pre, box, ms) _ _
    unfold wpY_trace
    refine od_yg ha (by omega) (br_f (by decide) ?_)
    refine od_yg hb (by omega) (br_f (by decide) ?_)
    exact ⟨N + 2, hY P hP⟩
/-! visits -/
def od_vs (st nx : Nat → Int32) (d w : Nat) : Nat → Nat → Bool
  | 0, c => decide (c = w)
  | m + 1, c => decide (c = w) || od_vs st nx d w m (od_go st nx d c)
theorem od_vs_k {st nx : Nat → Int32} {d w c : Nat} (h : od_go st nx d c = c) (hc : c ≠ w) : ∀ m, od_vs st nx d w m c = false := by
  intro m
  induction m with
  | zero => exact decide_eq_false hc
  | succ m ih => unfold od_vs; rw [h, ih, decide_eq_false hc]; rfl
theorem od_vs_w {st nx : Nat → Int32} {d w c : Nat} (hc : c = w) : ∀ m, od_vs st nx d w m c = true := by
  intro m
  cases m with
  | zero => exact decide_eq_true hc
  | succ m => unfold od_vs; rw [decide_eq_true hc]; rfl
theorem od_vs_n {st nx : Nat → Int32} {d w c m : Nat} (hc : c ≠ w) : od_vs st nx d w (m + 1) c = od_vs st nx d w m (od_go st nx d c) := by
  show (decide (c = w) || od_vs st nx d w m (od_go st nx d c)) = _
  rw [decide_eq_false hc, Bool.false_or]
section od11b
variable {N R z : Nat} {mx k1 k2 k3 k4 k5 k6 k7 k8 : Int32} {up seen st sq hp nx pc own ic io it ms pre box : Nat → Int32}
theorem od_xv6 {P : Int32 → Prop} (J : od_J N R z up st nx pc pre ms) {d w : Nat} (hd : d < N) (hw : w < N) : ∀ m j c, j + m = N → c < N → (od_vs st nx d w m c = true → P 1) → (od_vs st nx d w m c = false → P 0) → wX_visits_6 P (nI d) (nI w) (nI N) (nI R) mx (nI z) k1 k2 k3 k4 k5 k6 k7 k8 up seen st sq hp nx pc own ic io it ms (m + 1) (nI c) (nI j) := by
  have hz := od_Jz J
  intro m
  induction m with
  | zero =>
    intro j c hj hc h1 h0
    refine br_t (nI_le (by omega) (by omega)) ?_
    by_cases e : c = w
    · exact br_t (congrArg nI e) (h1 (od_vs_w e 0))
    · exact br_f (od_nn (by omega) (by omega) e) (h0 (decide_eq_false e))
  | succ m ih =>
    intro j c hj hc h1 h0
    refine br_f (nI_ge (by omega) (by omega)) ?_
    by_cases e : c = w
    · exact br_t (congrArg nI e) (h1 (od_vs_w e _))
    · refine br_f (od_nn (by omega) (by omega) e) ?_
      have cc : (nI (8 * c + d)).toNatClampNeg = 8 * c + d := nI_clamp (by omega)
      have v : vp_in (nI (8 * c + d)) 64 := vp_in_nI (by omega) (by omega)
      refine od_xcm (by omega) (by omega) (fun k => br_t rfl (h0 (od_vs_k (od_go_e k) e _))) (fun _ k => br_t rfl (h0 (od_vs_k (od_go_n k) e _))) (fun k h2 => br_f (by decide) ?_)
      obtain ⟨n, hn, en⟩ := od_Jnx J hc hd h2
      have eg : od_go st nx d c = n := by rw [od_go_2 k h2, en, nI_clamp (by omega)]
      rw [od_vs_n e, eg] at h1 h0
      refine od_xs ?_
      rw [cc]
      exact ⟨v, nm_r en (nm_r (nI_1 j) (ih (j + 1) n (by omega) hn h1 h0))⟩
theorem od_y38 {P : Int32 → Prop} {K : Int32 → Int32 → Prop} (J : od_J N R z up st nx pc pre ms) {d w a : Nat} {x3 : Int32} (hd : d < N) (hw : w < N) (ha : a < N) : ∀ m j c (x5 : Int32), j + m = N → od_at st nx d j a = c → (a = w → K x3 (nI (a + 1))) → (a ≠ w → (¬ x5 = 0 ∨ od_vs st nx d w m c = true) → K (x3 + 1) (nI (a + 1))) → (x5 = 0 → od_vs st nx d w m c = false → K x3 (nI (a + 1))) → wY_carried_38 P K (nI d) (nI w) x3 (nI a) (nI N) (nI R) mx (nI z) up own seen st sq hp nx pre box ms (m + 2) x5 (nI j) := by
  have hz := od_Jz J
  have fin : ∀ (n : Nat) (x5 : Int32), (a = w → K x3 (nI (a + 1))) → (a ≠ w → ¬ x5 = 0 → K (x3 + 1) (nI (a + 1))) → (x5 = 0 → K x3 (nI (a + 1))) → wY_carried_38 P K (nI d) (nI w) x3 (nI a) (nI N) (nI R) mx (nI z) up own seen st sq hp nx pre box ms (n + 1) x5 (nI (N + 1)) := by
    intro n x5 k1 k2 k3
    refine br_t (nI_lt (by omega) (by omega)) ?_
    by_cases e : a = w
    · exact br_t (congrArg nI e) (nm_r (nI_1 a) (k1 e))
    · exact br_f (od_nn (by omega) (by omega) e) (br_c (fun q => nm_r (nI_1 a) (k3 q)) (fun q => nm_e (nm_r (nI_1 a) (k2 e q))))
  intro m
  induction m with
  | zero =>
    intro j c x5 hj e k1 k2 k3
    have ej : j = N := by omega
    subst ej
    have hl := od_at_lt J hd j a ha
    rw [e] at hl
    refine br_f (nI_nlt (by omega) (by omega)) ?_
    refine od_yat J hd (by omega) ha ?_
    rw [e]
    by_cases ec : c = w
    · refine br_t (congrArg nI ec) (nm_r (nI_1 j) (fin 0 1 k1 (fun q _ => k2 q (Or.inr (od_vs_w ec 0))) (fun q => absurd q (by decide))))
    · refine br_f (od_nn (by omega) (by omega) ec) (nm_r (nI_1 j) (fin 0 x5 k1 (fun q r => k2 q (Or.inl r)) (fun q => k3 q (decide_eq_false ec))))
  | succ m ih =>
    intro j c x5 hj e k1 k2 k3
    have hl := od_at_lt J hd j a ha
    rw [e] at hl
    refine br_f (nI_nlt (by omega) (by omega)) ?_
    refine od_yat J hd (by omega) ha ?_
    rw [e]
    have e' : od_at st nx d (j + 1) a = od_go st nx d c := by rw [od_at_s, e]
    by_cases ec : c = w
    · exact br_t (congrArg nI ec) (nm_r (nI_1 j) (ih (j + 1) _ 1 (by omega) e' k1 (fun q _ => k2 q (Or.inr (od_vs_w ec _))) (fun q => absurd q (by decide))))
    · rw [od_vs_n ec] at k2 k3
      exact br_f (od_nn (by omega) (by omega) ec) (nm_r (nI_1 j) (ih (j + 1) _ x5 (by omega) e' k1 k2 k3))
end od11b
theorem od_car (N R z : Nat) (mx k1 k2 k3 k4 k5 k6 k7 k8 : Int32) (up seen st sq hp nx pc own ic io it ms pre box : Nat → Int32) (J : od_J N R z up st nx pc pre ms) {d w : Nat} (hd : d < N) (hw : w < N) : ∀ (m a : Nat) (l : Int32), a + m = N → ∃ r : Int32, (∀ P : Int32 → Prop, P r → wX_carried_23 P (nI d) (nI w) (nI N) (nI R) mx (nI z) k1 k2 k3 k4 k5 k6 k7 k8 up seen st sq hp nx pc own ic io it ms (m + 1) l (nI a)) ∧ (∀ P : Int32 → Prop, P r → wY_carried_23 P (nI d) (nI w) (nI N) (nI R) mx (nI z) up own seen st sq hp nx pre box ms (m + 1) l (nI a)) := by
  have hz := od_Jz J
  intro m
  induction m with
  | zero =>
    intro a l h
    exact ⟨l, fun P hP => br_t (nI_le (by omega) (by omega)) hP, fun P hP => br_t (nI_le (by omega) (by omega)) hP⟩
  | succ m ih =>
    intro a l h
    have hN : ¬ nI N ≤ nI a := nI_ge (by omega) (by omega)
    by_cases e : a = w
    · obtain ⟨r, hX, hY⟩ := ih (a + 1) l (by omega)
      refine ⟨r, fun P hP => br_f hN (br_t (congrArg nI e) (nm_r (nI_1 a) (hX P hP))), fun P hP => br_f hN ⟨N + 2, ?_⟩⟩
      exact od_y38 J hd hw (by omega) N 0 a 0 (by omega) rfl (fun _ => hY P hP) (fun k => absurd e k) (fun _ _ => hY P hP)
    · have hne : ¬ nI a = nI w := od_nn (by omega) (by omega) e
      by_cases hv : od_vs st nx d w N a = true
      · obtain ⟨r, hX, hY⟩ := ih (a + 1) (l + 1) (by omega)
        refine ⟨r, fun P hP => br_f hN (br_f hne ⟨N + 1, ?_⟩), fun P hP => br_f hN ⟨N + 2, ?_⟩⟩
        · refine od_xv6 J hd hw N 0 a (by omega) (by omega) (fun _ => br_f (by decide) ?_) (fun k => absurd (hv.symm.trans k) (by decide))
          exact nm_e (nm_r (nI_1 a) (hX P hP))
        · exact od_y38 J hd hw (by omega) N 0 a 0 (by omega) rfl (fun k => absurd k e) (fun _ _ => hY P hP) (fun _ k => absurd (hv.symm.trans k) (by decide))
      · have hv' : od_vs st nx d w N a = false := by
          cases q : od_vs st nx d w N a
          · rfl
          · exact absurd q hv
        obtain ⟨r, hX, hY⟩ := ih (a + 1) l (by omega)
        refine ⟨r, fun P hP => br_f hN (br_f hne ⟨N + 1, ?_⟩), fun P hP => br_f hN ⟨N + 2, ?_⟩⟩
        · refine od_xv6 J hd hw N 0 a (by omega) (by omega) (fun k => absurd k hv) (fun _ => br_t rfl ?_)
          exact nm_r (nI_1 a) (hX P hP)
        · exact od_y38 J hd hw (by omega) N 0 a 0 (by omega) rfl (fun k => absurd k e) (fun _ k => k.elim (fun q => absurd rfl q) (fun q => absurd q hv)) (fun _ _ => hY P hP)
theorem od_carried (N R z : Nat) (mx k1 k2 k3 k4 k5 k6 k7 k8 : Int32) (up seen st sq hp nx pc own ic io it ms pre box : Nat → Int32) (J : od_J N R z up st nx pc pre ms) (v1 v2 : Int32) : od_Q (fun P => wpX_carried P (nI N, nI R, mx, nI z, k1, k2, k3, k4, k5, k6, k7, k8, up, seen, st, sq, hp, nx, pc, own, ic, io, it, ms) v1 v2) (fun P => wpY_carried P (nI N, nI R, mx, nI z, up, own, seen, st, sq, hp, nx, pre, box, ms) v1 v2) := by
  have hz := od_Jz J
  rcases od_one (N := N) (by omega) v1 with h | ⟨a, ha, rfl⟩
  · refine ⟨-1, fun P hP => ?_, fun P hP => ?_⟩
    · show wpX_carried P (nI N, nI R, mx, nI z, k1, k2, k3, k4, k5, k6, k7, k8, up, seen, st, sq, hp, nx, pc, own, ic, io, it, ms) _ _
      unfold wpX_carried
      exact od_xgb h (br_t rfl hP)
    · show wpY_carried P (nI N, nI R, mx, nI z, up, own, seen, st, sq, hp, nx, pre, box, ms) _ _
      unfold wpY_carried
      exact od_ygb h (br_t rfl hP)
  rcases od_one (N := N) (by omega) v2 with h | ⟨b, hb, rfl⟩
  · refine ⟨-1, fun P hP => ?_, fun P hP => ?_⟩
    · show wpX_carried P (nI N, nI R, mx, nI z, k1, k2, k3, k4, k5, k6, k7, k8, up, seen, st, sq, hp, nx, pc, own, ic, io, it, ms) _ _
      unfold wpX_carried
      refine od_xg ha (by omega) (br_f (by decide) ?_)
      exact od_xgb h (br_t rfl hP)
    · show wpY_carried P (nI N, nI R, mx, nI z, up, own, seen, st, sq, hp, nx, pre, box, ms) _ _
      unfold wpY_carried
      refine od_yg ha (by omega) (br_f (by decide) ?_)
      exact od_ygb h (br_t rfl hP)
  obtain ⟨r, hX, hY⟩ := od_car N R z mx k1 k2 k3 k4 k5 k6 k7 k8 up seen st sq hp nx pc own ic io it ms pre box J ha hb N 0 0 (by omega)
  refine ⟨r, fun P hP => ?_, fun P hP => ?_⟩
  · show wpX_carried P (nI N, nI R, mx, nI z, k1, k2, k3, k4, k5, k6, k7, k8, up, seen, st, sq, hp, nx, pc, own, ic, io, it, ms) _ _
    unfold wpX_carried
    refine od_xg ha (by omega) (br_f (by decide) ?_)
    refine od_xg hb (by omega) (br_f (by decide) ?_)
    exact ⟨N + 1, hX P hP⟩
  · show wpY_carried P (nI N, nI R, mx, nI z, up, own, seen, st, sq, hp, nx, pre, box, ms) _ _
    unfold wpY_carried
    refine od_yg ha (by omega) (br_f (by decide) ?_)
    refine od_yg hb (by omega) (br_f (by decide) ?_)
    exact ⟨N + 1, hY P hP⟩
end
section
/-! probe -/
section od12
variable {N R z : Nat} {mx k1 k2 k3 k4 k5 k6 k7 k8 : Int32} {up seen st sq hp nx pc own ic io it ms pre box : Nat → Int32}
theorem od_yp14 {P : Int32 → SY → Prop} {i : Nat} (hN : N ≤ 8) (hi : i < N) {C : Nat} (h : ∃ n48 : Nat, wY_probe_48 P (nI i) (nI C) n48 0 (nI N) (nI R) mx (nI z) up own seen st sq hp nx pre box ms) : ∀ m p c, p + m = N → c + od_cn st i m p = C → wY_probe_14 P (nI i) (nI N) (nI R) mx (nI z) up own seen st sq hp nx pre box ms (m + 1) (nI c) (nI p) := by
  intro m
  induction m with
  | zero =>
    intro p c hp hc
    have e : c = C := hc
    subst e
    exact br_t (nI_le (by omega) (by omega)) h
  | succ m ih =>
    intro p c hp hc
    have cc : (nI (8 * i + p)).toNatClampNeg = 8 * i + p := nI_clamp (by omega)
    have v : vp_in (nI (8 * i + p)) 64 := vp_in_nI (by omega) (by omega)
    have hc' : c + ((if st (8 * i + p) = 2 then 1 else 0) + od_cn st i m (p + 1)) = C := hc
    refine br_f (nI_ge (by omega) (by omega)) ?_
    rw [od_ye, cc]
    refine ⟨v, br_c (fun h2 => ?_) (fun h2 => ?_)⟩
    · rw [if_pos h2] at hc'
      exact nm_r (nI_1 c) (nm_r (nI_1 p) (ih (p + 1) (c + 1) (by omega) (by omega)))
    · rw [if_neg h2] at hc'
      exact nm_r (nI_1 p) (ih (p + 1) c (by omega) (by omega))
theorem od_yp84 {P : Int32 → SY → Prop} {i q : Nat} (hN : N ≤ 8) (hi : i < N) (h : P (nI q) (nI N, nI R, mx, nI z, up, own, seen, st, sq, hp, nx, pre, box, ms)) : ∀ m p c, p + m = N → c = q + od_cn st i m p → wY_probe_84 P (nI i) (nI N) (nI R) mx (nI z) up own seen st sq hp nx pre box ms (m + 1) (nI c) (nI p) := by
  intro m
  induction m with
  | zero =>
    intro p c hp hc
    have e : c = q := hc
    subst e
    exact br_t (nI_le (by omega) (by omega)) h
  | succ m ih =>
    intro p c hp hc
    have cc : (nI (8 * i + p)).toNatClampNeg = 8 * i + p := nI_clamp (by omega)
    have v : vp_in (nI (8 * i + p)) 64 := vp_in_nI (by omega) (by omega)
    have hc' : c = q + ((if st (8 * i + p) = 2 then 1 else 0) + od_cn st i m (p + 1)) := hc
    refine br_f (nI_ge (by omega) (by omega)) ?_
    rw [od_ye, cc]
    refine ⟨v, br_c (fun h2 => ?_) (fun h2 => ?_)⟩
    · rw [if_pos h2] at hc'
      obtain ⟨c', rfl⟩ : ∃ c', c = c' + 1 := ⟨c - 1, by omega⟩
      exact nm_r (pk_m1 c') (nm_r (nI_1 p) (ih (p + 1) c' (by omega) (by omega)))
    · rw [if_neg h2] at hc'
      exact nm_r (nI_1 p) (ih (p + 1) c (by omega) (by omega))
end od12
theorem od_prb {i : Nat} : ∀ (m w l : Nat) (N R z : Nat) (mx k1 k2 k3 k4 k5 k6 k7 k8 : Int32) (up seen st sq hp nx pc own ic io it ms pre box : Nat → Int32), i < N → w + m = N → od_J N R z up st nx pc pre ms → ∃ (q z' : Nat) (st' pc' pre' ms' : Nat → Int32), od_J N R z' up st' nx pc' pre' ms' ∧ od_cn st' i N 0 + q = od_cn st i N 0 ∧ (∀ P : Int32 → SX → Prop, P (nI (l + q)) (nI N, nI R, mx, nI z', k1, k2, k3, k4, k5, k6, k7, k8, up, seen, st', sq, hp, nx, pc', own, ic, io, it, ms') → wX_probe_14 P (nI i) (m + 1) (nI l) (nI w) (nI N) (nI R) mx (nI z) k1 k2 k3 k4 k5 k6 k7 k8 up seen st sq hp nx pc own ic io it ms) ∧ (∀ (P : Int32 → SY → Prop) (x2 : Int32), (∃ n84 : Nat, wY_probe_84 P (nI i) (nI N) (nI R) mx (nI z') up own seen st' sq hp nx pre' box ms' n84 x2 0) → wY_probe_48 P (nI i) x2 (m + 1) (nI w) (nI N) (nI R) mx (nI z) up own seen st sq hp nx pre box ms) := by
  intro m
  induction m with
  | zero =>
    intro w l N R z mx k1 k2 k3 k4 k5 k6 k7 k8 up seen st sq hp nx pc own ic io it ms pre box hi hw J
    have hz := od_Jz J
    exact ⟨0, z, st, pc, pre, ms, J, rfl, fun P hP => br_t (nI_le (by omega) (by omega)) hP, fun P x2 hP => br_t (nI_le (by omega) (by omega)) hP⟩
  | succ m ih =>
    intro w l N R z mx k1 k2 k3 k4 k5 k6 k7 k8 up seen st sq hp nx pc own ic io it ms pre box hi hw J
    have hz := od_Jz J
    have hN : ¬ nI N ≤ nI w := nI_ge (by omega) (by omega)
    by_cases e : w = i
    · obtain ⟨q, z', st', pc', pre', ms', J', hq, hX, hY⟩ := ih (w + 1) l N R z mx k1 k2 k3 k4 k5 k6 k7 k8 up seen st sq hp nx pc own ic io it ms pre box hi (by omega) J
      refine ⟨q, z', st', pc', pre', ms', J', hq, fun P hP => br_f hN (br_t (congrArg nI e) ?_), fun P x2 hP => br_f hN (br_t (congrArg nI e) ?_)⟩
      · exact nm_r (nI_1 w) (hX P hP)
      · exact nm_r (nI_1 w) (hY P x2 hP)
    · have hne : ¬ nI w = nI i := od_nn (by omega) (by omega) e
      have c : (nI (8 * i + w)).toNatClampNeg = 8 * i + w := nI_clamp (by omega)
      have v : vp_in (nI (8 * i + w)) 64 := vp_in_nI (by omega) (by omega)
      by_cases hu : up (8 * i + w) = 0
      · obtain ⟨q1, z1, st1, pc1, pre1, ms1, J1, hq1, hX1, hY1⟩ := od_brk N R z mx k1 k2 k3 k4 k5 k6 k7 k8 up seen st sq hp nx pc own ic io it ms pre box J hi (nI w)
        obtain ⟨q, z', st', pc', pre', ms', J', hq, hX, hY⟩ := ih (w + 1) (l + q1) N R z1 mx k1 k2 k3 k4 k5 k6 k7 k8 up seen st1 sq hp nx pc1 own ic io it ms1 pre1 box hi (by omega) J1
        refine ⟨q1 + q, z', st', pc', pre', ms', J', by omega, fun P hP => br_f hN (br_f hne ?_), fun P x2 hP => br_f hN (br_f hne ?_)⟩
        · refine od_xs ?_
          rw [c]
          refine ⟨v, br_t hu ?_⟩
          refine hX1 _ ?_
          refine nm_r (nI_add l q1) (nm_r (nI_1 w) (hX P ?_))
          rw [Nat.add_assoc]; exact hP
        · refine od_yk (by omega) J.2.1 hi (by omega) (fun _ => br_t rfl ?_) (fun k => absurd hu k)
          refine hY1 _ ?_
          exact nm_r (nI_1 w) (hY P x2 hP)
      · obtain ⟨q, z', st', pc', pre', ms', J', hq, hX, hY⟩ := ih (w + 1) l N R z mx k1 k2 k3 k4 k5 k6 k7 k8 up seen st sq hp nx pc own ic io it ms pre box hi (by omega) J
        refine ⟨q, z', st', pc', pre', ms', J', hq, fun P hP => br_f hN (br_f hne ?_), fun P x2 hP => br_f hN (br_f hne ?_)⟩
        · refine od_xs ?_
          rw [c]
          exact ⟨v, br_f hu (nm_r (nI_1 w) (hX P hP))⟩
        · refine od_yk (by omega) J.2.1 hi (by omega) (fun k => absurd k hu) (fun _ => br_f (by decide) ?_)
          exact nm_r (nI_1 w) (hY P x2 hP)
theorem od_probe (N R z : Nat) (mx k1 k2 k3 k4 k5 k6 k7 k8 : Int32) (up seen st sq hp nx pc own ic io it ms pre box : Nat → Int32) (J : od_J N R z up st nx pc pre ms) (B : od_Bx ic io it box) (v1 : Int32) : od_O (fun P => wpX_probe P (nI N, nI R, mx, nI z, k1, k2, k3, k4, k5, k6, k7, k8, up, seen, st, sq, hp, nx, pc, own, ic, io, it, ms) v1) (fun P => wpY_probe P (nI N, nI R, mx, nI z, up, own, seen, st, sq, hp, nx, pre, box, ms) v1) := by
  have hz := od_Jz J
  rcases od_one (N := N) (by omega) v1 with h | ⟨i, hi, rfl⟩
  · refine od_Oi (-1) N R z mx k1 k2 k3 k4 k5 k6 k7 k8 up seen st sq hp nx pc own ic io it ms pre box J B (fun P hP => ?_) (fun P hP => ?_)
    · show wpX_probe P (nI N, nI R, mx, nI z, k1, k2, k3, k4, k5, k6, k7, k8, up, seen, st, sq, hp, nx, pc, own, ic, io, it, ms) _
      unfold wpX_probe
      exact od_xgb h (br_t rfl hP)
    · show wpY_probe P (nI N, nI R, mx, nI z, up, own, seen, st, sq, hp, nx, pre, box, ms) _
      unfold wpY_probe
      exact od_ygb h (br_t rfl hP)
  · obtain ⟨q, z', st', pc', pre', ms', J', hq, hX, hY⟩ := od_prb N 0 0 N R z mx k1 k2 k3 k4 k5 k6 k7 k8 up seen st sq hp nx pc own ic io it ms pre box hi (by omega) J
    refine od_Oi (nI q) N R z' mx k1 k2 k3 k4 k5 k6 k7 k8 up seen st' sq hp nx pc' own ic io it ms' pre' box J' B (fun P hP => ?_) (fun P hP => ?_)
    · show wpX_probe P (nI N, nI R, mx, nI z, k1, k2, k3, k4, k5, k6, k7, k8, up, seen, st, sq, hp, nx, pc, own, ic, io, it, ms) _
      unfold wpX_probe
      refine od_xg hi (by omega) (br_f (by decide) ⟨N + 1, hX P ?_⟩)
      rw [Nat.zero_add]; exact hP
    · show wpY_probe P (nI N, nI R, mx, nI z, up, own, seen, st, sq, hp, nx, pre, box, ms) _
      unfold wpY_probe
      refine od_yg hi (by omega) (br_f (by decide) ⟨N + 1, ?_⟩)
      refine od_yp14 (by omega) hi (C := od_cn st i N 0) ⟨N + 1, ?_⟩ N 0 0 (by omega) (by omega)
      refine hY P _ ⟨N + 1, ?_⟩
      exact od_yp84 (by omega) hi hP N 0 _ (by omega) (by omega)
end
section
/-! the constructors -/
def od_fl (x : Int32) (n : Nat) : Nat → Int32 := fun j => if j < n then x else 0
theorem od_fl_0 (x : Int32) : od_fl x 0 = fun _ => 0 := by funext j; exact if_neg (by omega)
theorem od_fl_1 (x : Int32) (n : Nat) : upd (od_fl x n) n x = od_fl x (n + 1) := by
  funext j
  by_cases h : j = n
  · rw [h, pk_us]; exact (if_pos (by omega)).symm
  · rw [pk_un h]
    by_cases c : j < n
    · exact (if_pos c).trans (if_pos (by omega)).symm
    · exact (if_neg c).trans (if_neg (by omega)).symm
def od_bf (n : Nat) : Nat → Int32 := fun j => if j < 3 * n ∧ j % 3 = 1 then -1 else 0
theorem od_bf_0 : od_bf 0 = fun _ => 0 := by funext j; exact if_neg (by omega)
theorem od_bf_1 (n : Nat) : upd (od_bf n) (3 * n + 1) (-1) = od_bf (n + 1) := by
  funext j
  by_cases h : j = 3 * n + 1
  · rw [h, pk_us]; exact (if_pos (by omega)).symm
  · rw [pk_un h]
    by_cases c : j < 3 * n ∧ j % 3 = 1
    · exact (if_pos c).trans (if_pos (by omega)).symm
    · exact (if_neg c).trans (if_neg (by omega)).symm
section od13
variable {N R z : Nat} {mx k1 k2 k3 k4 k5 k6 k7 k8 : Int32} {up seen st sq hp nx pc own ic io it ms pre box : Nat → Int32}
theorem od_xi174 {P : SX → Prop} (h : P (nI N, nI R, mx, nI z, k1, k2, k3, k4, k5, k6, k7, k8, up, seen, st, sq, hp, od_fl (-1) 64, pc, own, ic, io, it, ms)) : ∀ m p, p + m = 64 → wX_init_174 P (nI N) (nI R) mx (nI z) k1 k2 k3 k4 k5 k6 k7 k8 (m + 1) (nI p) up seen st sq hp (od_fl (-1) p) pc own ic io it ms := by
  intro m
  induction m with
  | zero =>
    intro p hp
    have e : p = 64 := by omega
    subst e
    exact br_t (nI_le (a := 64) (b := 64) (by omega) (by omega)) h
  | succ m ih =>
    intro p hp
    have c : (nI p).toNatClampNeg = p := nI_clamp (by omega)
    refine br_f (nI_ge (a := p) (b := 64) (by omega) (by omega)) ?_
    rw [c, od_fl_1]
    exact ⟨vp_in_nI (by omega) (by omega), nm_e (nm_r (nI_1 p) (ih (p + 1) (by omega)))⟩
theorem od_xi142 {P : SX → Prop} (h : P (nI N, nI R, mx, nI z, k1, k2, k3, k4, k5, k6, k7, k8, up, seen, st, sq, hp, od_fl (-1) 64, pc, od_fl 1 8, ic, od_fl (-1) 8, it, ms)) : ∀ m p, p + m = 8 → wX_init_142 P (nI N) (nI R) mx (nI z) k1 k2 k3 k4 k5 k6 k7 k8 (m + 1) (nI p) up seen st sq hp (fun _ => 0) pc (od_fl 1 p) ic (od_fl (-1) p) it ms := by
  intro m
  induction m with
  | zero =>
    intro p hp
    have e : p = 8 := by omega
    subst e
    refine br_t (nI_le (a := 8) (b := 8) (by omega) (by omega)) ⟨65, ?_⟩
    have k := od_xi174 (P := P) h 64 0 rfl
    rw [od_fl_0 (-1)] at k
    exact k
  | succ m ih =>
    intro p hp
    have c : (nI p).toNatClampNeg = p := nI_clamp (by omega)
    refine br_f (nI_ge (a := p) (b := 8) (by omega) (by omega)) ?_
    rw [c, od_fl_1, od_fl_1]
    exact ⟨vp_in_nI (by omega) (by omega), nm_e ⟨vp_in_nI (by omega) (by omega), nm_e (nm_r (nI_1 p) (ih (p + 1) (by omega)))⟩⟩
theorem od_yi156 {P : SY → Prop} (h : P (nI N, nI R, mx, nI z, up, od_fl 1 8, seen, st, sq, hp, nx, pre, od_bf 8, ms)) : ∀ m p, p + m = 8 → wY_init_156 P (nI N) (nI R) mx (nI z) (m + 1) (nI p) up (od_fl 1 p) seen st sq hp nx pre (od_bf p) ms := by
  intro m
  induction m with
  | zero =>
    intro p hp
    have e : p = 8 := by omega
    subst e
    exact br_t (nI_le (a := 8) (b := 8) (by omega) (by omega)) h
  | succ m ih =>
    intro p hp
    have c : (nI p).toNatClampNeg = p := nI_clamp (by omega)
    have c3 : (nI (3 * p + 1)).toNatClampNeg = 3 * p + 1 := nI_clamp (by omega)
    refine br_f (nI_ge (a := p) (b := 8) (by omega) (by omega)) ?_
    rw [od_3m, nI_1 (3 * p), c, c3, od_fl_1, od_bf_1]
    exact ⟨vp_in_nI (by omega) (by omega), nm_e ⟨vp_in_nI (by omega) (by omega), nm_e (nm_r (nI_1 p) (ih (p + 1) (by omega)))⟩⟩
theorem od_yi132 {P : SY → Prop} (h : P (nI N, nI R, mx, nI z, up, od_fl 1 8, seen, st, sq, hp, od_fl (-1) 64, pre, od_bf 8, ms)) : ∀ m p, p + m = 64 → wY_init_132 P (nI N) (nI R) mx (nI z) (m + 1) (nI p) up (fun _ => 0) seen st sq hp (od_fl (-1) p) pre (fun _ => 0) ms := by
  intro m
  induction m with
  | zero =>
    intro p hp
    have e : p = 64 := by omega
    subst e
    refine br_t (nI_le (a := 64) (b := 64) (by omega) (by omega)) ⟨9, ?_⟩
    have k := od_yi156 (P := P) h 8 0 rfl
    rw [od_fl_0 1, od_bf_0] at k
    exact k
  | succ m ih =>
    intro p hp
    have c : (nI p).toNatClampNeg = p := nI_clamp (by omega)
    refine br_f (nI_ge (a := p) (b := 64) (by omega) (by omega)) ?_
    rw [c, od_fl_1]
    exact ⟨vp_in_nI (by omega) (by omega), nm_e (nm_r (nI_1 p) (ih (p + 1) (by omega)))⟩
end od13
/-- what clamp answers -/
def od_ck (x a b : Int32) : Int32 := if a ≤ x then (if x ≤ b then x else b) else a
theorem od_xck {P : Int32 → Prop} {u : SX} {x a b : Int32} (h : P (od_ck x a b)) : wpX_clamp P u x a b := by
  unfold od_ck at h
  refine br_c (fun h1 => br_c (fun h2 => ?_) (fun h2 => ?_)) (fun h1 => ?_)
  · rw [if_pos h1, if_pos h2] at h; exact h
  · rw [if_pos h1, if_neg h2] at h; exact h
  · rw [if_neg h1] at h; exact h
theorem od_yck {P : Int32 → Prop} {u : SY} {x a b : Int32} (h : P (od_ck x a b)) : wpY_clamp P u x a b := by
  unfold od_ck at h
  refine br_c (fun h1 => br_c (fun h2 => ?_) (fun h2 => ?_)) (fun h1 => ?_)
  · rw [if_pos h1, if_pos h2] at h; exact h
  · rw [if_pos h1, if_neg h2] at h; exact h
  · rw [if_neg h1] at h; exact h
theorem od_ckn {x a b : Int32} {A B : Nat} (ha : a.toInt = A) (hb : b.toInt = B) (hAB : A ≤ B) (hB : B < 2 ^ 31) : ∃ n : Nat, A ≤ n ∧ n ≤ B ∧ od_ck x a b = nI n := by
  have g : ∀ y : Int32, (A : Int) ≤ y.toInt → y.toInt ≤ B → ∃ n : Nat, A ≤ n ∧ n ≤ B ∧ y = nI n := by
    intro y h1 h2
    refine ⟨y.toInt.toNat, by omega, by omega, ?_⟩
    apply Int32.toInt_inj.mp
    rw [nI_toInt (by omega)]
    omega
  unfold od_ck
  by_cases h1 : a ≤ x
  · rw [if_pos h1]
    by_cases h2 : x ≤ b
    · rw [if_pos h2]
      rw [Int32.le_iff_toInt_le] at h1 h2
      exact g x (by omega) (by omega)
    · rw [if_neg h2]; exact g b (by omega) (by omega)
  · rw [if_neg h1]; exact g a (by omega) (by omega)
theorem od_J0 {N R : Nat} (h2 : 2 ≤ N) (h8 : N ≤ 8) (hR : R ≤ 32) (nx : Nat → Int32) : od_J N R 0 (fun _ => 0) (fun _ => 0) nx (fun _ => 0) (fun _ => 0) (fun _ => 0) := by
  refine ⟨⟨h2, h8, hR, by omega⟩, fun _ _ => rfl, fun _ _ _ _ h => ?_, fun e p _ _ => ?_, fun k f h => by omega⟩
  · exact absurd (show (0 : Int32) = 2 from h) (by decide)
  · show bt 0 p = _
    rw [b_0]; simp
theorem od_B0 : od_Bx (fun _ => 0) (od_fl (-1) 8) (fun _ => 0) (od_bf 8) := by
  intro i hi
  refine ⟨if_neg (by omega), ?_, if_neg (by omega)⟩
  exact (if_pos (by omega)).trans (if_pos hi).symm
theorem od_init (k0 k1 k2 : Int32) : wpX_init (fun u => wpY_init (fun v => od_R u v) k0 k1 k2) k0 k1 k2 := by
  obtain ⟨N, hN2, hN8, eN⟩ := od_ckn (x := k0) (a := 2) (b := 8) (A := 2) (B := 8) (by decide) (by decide) (by omega) (by omega)
  obtain ⟨R, _, hR, eR⟩ := od_ckn (x := k1) (a := 8) (b := 32) (A := 8) (B := 32) (by decide) (by decide) (by omega) (by omega)
  have hY : ∀ P : SY → Prop, P (nI N, nI R, od_ck k2 4 1000, nI 0, (fun _ => 0), od_fl 1 8, (fun _ => 0), (fun _ => 0), (fun _ => 0), (fun _ => 0), od_fl (-1) 64, (fun _ => 0), od_bf 8, (fun _ => 0)) → wpY_init P k0 k1 k2 := by
    intro P hP
    unfold wpY_init
    refine od_yck ?_
    refine od_yck ?_
    refine od_yck ?_
    rw [eN, eR]
    have k := od_yi132 (P := P) hP 64 0 rfl
    rw [od_fl_0 (-1)] at k
    exact ⟨65, k⟩
  have hX : ∀ P : SX → Prop, P (nI N, nI R, od_ck k2 4 1000, nI 0, 0, 0, 0, 0, 0, 0, 0, 0, (fun _ => 0), (fun _ => 0), (fun _ => 0), (fun _ => 0), (fun _ => 0), od_fl (-1) 64, (fun _ => 0), od_fl 1 8, (fun _ => 0), od_fl (-1) 8, (fun _ => 0), (fun _ => 0)) → wpX_init P k0 k1 k2 := by
    intro P hP
    unfold wpX_init
    refine od_xck ?_
    refine od_xck ?_
    refine od_xck ?_
    rw [eN, eR]
    have k := od_xi142 (P := P) hP 8 0 rfl
    rw [od_fl_0 1, od_fl_0 (-1)] at k
    exact ⟨9, k⟩
  refine hX _ (hY _ ?_)
  exact fun Q h => h N R 0 (od_ck k2 4 1000) 0 0 0 0 0 0 0 0 (fun _ => 0) (fun _ => 0) (fun _ => 0) (fun _ => 0) (fun _ => 0) (od_fl (-1) 64) (fun _ => 0) (od_fl 1 8) (fun _ => 0) (od_fl (-1) 8) (fun _ => 0) (fun _ => 0) (fun _ => 0) (od_bf 8) (od_J0 hN2 hN8 hR _) od_B0
end
section
/-! the public calls -/
theorem od_Jlk {N R z : Nat} {up st nx pc pre ms : Nat → Int32} (J : od_J N R z up st nx pc pre ms) {a b : Nat} (ha : a < N) (hb : b < N) (hn : a ≠ b) (x : Int32) : od_J N R z (upd (upd up (8 * a + b) x) (8 * b + a) x) st nx pc pre ms := by
  have hz := od_Jz J
  refine ⟨J.1, fun c hc => ?_, J.2.2⟩
  rw [pk_un (by omega), pk_un (by omega)]
  exact J.2.1 c hc
theorem od_set (N R z : Nat) (mx k1 k2 k3 k4 k5 k6 k7 k8 : Int32) (up seen st sq hp nx pc own ic io it ms pre box : Nat → Int32) (J : od_J N R z up st nx pc pre ms) (B : od_Bx ic io it box) (v1 v2 x : Int32) : od_O (fun P => wpX_setLink P (nI N, nI R, mx, nI z, k1, k2, k3, k4, k5, k6, k7, k8, up, seen, st, sq, hp, nx, pc, own, ic, io, it, ms) v1 v2 x) (fun P => wpY_setLink P (nI N, nI R, mx, nI z, up, own, seen, st, sq, hp, nx, pre, box, ms) v1 v2 x) := by
  have hz := od_Jz J
  rcases od_pair (N := N) (by omega) v1 v2 with h | ⟨a, b, ha, hb, hn, rfl, rfl⟩
  · refine od_Oi (-1) N R z mx k1 k2 k3 k4 k5 k6 k7 k8 up seen st sq hp nx pc own ic io it ms pre box J B (fun P hP => ?_) (fun P hP => ?_)
    · show wpX_setLink P (nI N, nI R, mx, nI z, k1, k2, k3, k4, k5, k6, k7, k8, up, seen, st, sq, hp, nx, pc, own, ic, io, it, ms) _ _ _
      unfold wpX_setLink
      exact od_xgpb (by omega) h (br_t rfl hP)
    · show wpY_setLink P (nI N, nI R, mx, nI z, up, own, seen, st, sq, hp, nx, pre, box, ms) _ _ _
      unfold wpY_setLink
      exact od_ygpb (by omega) h hP
  · have c1 : (nI (8 * a + b)).toNatClampNeg = 8 * a + b := nI_clamp (by omega)
    have c2 : (nI (8 * b + a)).toNatClampNeg = 8 * b + a := nI_clamp (by omega)
    have w1 : vp_in (nI (8 * a + b)) 64 := vp_in_nI (by omega) (by omega)
    have w2 : vp_in (nI (8 * b + a)) 64 := vp_in_nI (by omega) (by omega)
    refine od_Oi 0 N R z mx k1 k2 k3 k4 k5 k6 k7 k8 (upd (upd up (8 * a + b) (vp_nar .boolean x)) (8 * b + a) (vp_nar .boolean x)) seen st sq hp nx pc own ic io it ms pre box (od_Jlk J ha hb hn _) B (fun P hP => ?_) (fun P hP => ?_)
    · show wpX_setLink P (nI N, nI R, mx, nI z, k1, k2, k3, k4, k5, k6, k7, k8, up, seen, st, sq, hp, nx, pc, own, ic, io, it, ms) _ _ _
      unfold wpX_setLink
      refine od_xgp (by omega) ha hb hn (br_f (by decide) ?_)
      refine od_xs ?_
      rw [c1]
      refine ⟨w1, nm_e ?_⟩
      refine od_xs ?_
      rw [c2]
      exact ⟨w2, nm_e hP⟩
    · show wpY_setLink P (nI N, nI R, mx, nI z, up, own, seen, st, sq, hp, nx, pre, box, ms) _ _ _
      unfold wpY_setLink
      refine od_ygp (by omega) ha hb hn ?_
      rw [od_ye a b, od_ye b a, c1, c2]
      exact ⟨w1, nm_e ⟨w2, nm_e hP⟩⟩
theorem od_d64 (N R z : Nat) (mx k1 k2 k3 k4 k5 k6 k7 k8 : Int32) (up seen st sq hp nx pc own ic io it ms pre box : Nat → Int32) (J : od_J N R z up st nx pc pre ms) (B : od_Bx ic io it box) {a b : Nat} (ha : a < N) (hb : b < N) (kd : Int32) : od_O (fun P => wX_discover_64 P (nI a) (nI b) kd (nI N) (nI R) mx (nI z) k1 k2 k3 k4 k5 k6 k7 k8 up seen st sq hp nx pc own ic io it ms) (fun P => ∃ n94 : Nat, wY_discover_94 P (nI a) (nI b) (nI z) (od_nd st sq (8 * a + b)) kd n94 0 (nI N) (nI R) mx (nI z) up own seen st sq hp nx pre box ms) := by
  have hz := od_Jz J
  have ca : (nI a).toNatClampNeg = a := nI_clamp (by omega)
  have va : vp_in (nI a) 8 := vp_in_nI (by omega) (by omega)
  obtain ⟨z', ms', J', hX, hY⟩ := od_fl1 (i := a) (d := b) (nI z) (od_nd st sq (8 * a + b)) kd N 0 N R z mx k1 k2 k3 k4 k5 k6 k7 k8 up seen st sq hp nx pc own ic io it ms pre box ha hb (by omega) J
  refine od_Oi (nI z' - nI z) N R z' mx kd k2 k3 (nI a) (nI b) (own a) 0 (od_nd st sq (8 * a + b)) up seen st sq hp nx pc own ic io it ms' pre box J' B (fun P hP => ?_) (fun P hP => ?_)
  · show wX_discover_64 P _ _ _ (nI N) (nI R) mx (nI z) k1 k2 k3 k4 k5 k6 k7 k8 up seen st sq hp nx pc own ic io it ms
    unfold wX_discover_64
    rw [ca]
    refine ⟨va, nm_e ?_⟩
    refine od_xn (by omega) ?_
    exact ⟨N + 1, hX _ hP⟩
  · exact ⟨N + 1, hY P hP⟩
theorem od_dis (N R z : Nat) (mx k1 k2 k3 k4 k5 k6 k7 k8 : Int32) (up seen st sq hp nx pc own ic io it ms pre box : Nat → Int32) (J : od_J N R z up st nx pc pre ms) (B : od_Bx ic io it box) (v1 v2 x : Int32) : od_O (fun P => wpX_discover P (nI N, nI R, mx, nI z, k1, k2, k3, k4, k5, k6, k7, k8, up, seen, st, sq, hp, nx, pc, own, ic, io, it, ms) v1 v2 x) (fun P => wpY_discover P (nI N, nI R, mx, nI z, up, own, seen, st, sq, hp, nx, pre, box, ms) v1 v2 x) := by
  have hz := od_Jz J
  rcases od_pair (N := N) (by omega) v1 v2 with h | ⟨a, b, ha, hb, hn, rfl, rfl⟩
  · refine od_Oi (-1) N R z mx k1 k2 k3 k4 k5 k6 k7 k8 up seen st sq hp nx pc own ic io it ms pre box J B (fun P hP => ?_) (fun P hP => ?_)
    · show wpX_discover P (nI N, nI R, mx, nI z, k1, k2, k3, k4, k5, k6, k7, k8, up, seen, st, sq, hp, nx, pc, own, ic, io, it, ms) _ _ _
      unfold wpX_discover
      exact od_xgpb (by omega) h (br_t rfl hP)
    · show wpY_discover P (nI N, nI R, mx, nI z, up, own, seen, st, sq, hp, nx, pre, box, ms) _ _ _
      unfold wpY_discover
      exact od_ygpb (by omega) h hP
  · have ca : (nI a).toNatClampNeg = a := nI_clamp (by omega)
    have va : vp_in (nI a) 8 := vp_in_nI (by omega) (by omega)
    have c1 : (nI (8 * a + a)).toNatClampNeg = 8 * a + a := nI_clamp (by omega)
    have w1 : vp_in (nI (8 * a + a)) 64 := vp_in_nI (by omega) (by omega)
    by_cases hm : own a < mx
    · by_cases hx : x = 0
      · refine od_Om (od_d64 N R z mx k1 k2 k3 k4 k5 k6 k7 k8 up (upd seen (8 * a + a) (upd own a (own a + 1) a)) st sq hp nx pc (upd own a (own a + 1)) ic io it ms pre box J B ha hb 1) (fun P hP => ?_) (fun P hP => ?_)
        · unfold wpX_discover
          refine od_xgp (by omega) ha hb hn (br_f (by decide) ?_)
          rw [ca]
          refine ⟨va, br_t hm ⟨va, va, nm_e ?_⟩⟩
          refine od_xs ?_
          rw [c1]
          exact ⟨va, w1, nm_e (br_t hx hP)⟩
        · unfold wpY_discover
          refine od_ygp (by omega) ha hb hn ?_
          rw [ca, od_ye a a, c1]
          refine ⟨va, br_t hm ⟨va, va, nm_e ⟨va, w1, nm_e ?_⟩⟩⟩
          refine od_yn (by omega) ?_
          exact br_t hx hP
      · refine od_Om (od_d64 N R z mx k1 k2 k3 k4 k5 k6 k7 k8 up (upd seen (8 * a + a) (upd own a (own a + 1) a)) st sq hp nx pc (upd own a (own a + 1)) ic io it ms pre box J B ha hb 2) (fun P hP => ?_) (fun P hP => ?_)
        · unfold wpX_discover
          refine od_xgp (by omega) ha hb hn (br_f (by decide) ?_)
          rw [ca]
          refine ⟨va, br_t hm ⟨va, va, nm_e ?_⟩⟩
          refine od_xs ?_
          rw [c1]
          exact ⟨va, w1, nm_e (br_f hx hP)⟩
        · unfold wpY_discover
          refine od_ygp (by omega) ha hb hn ?_
          rw [ca, od_ye a a, c1]
          refine ⟨va, br_t hm ⟨va, va, nm_e ⟨va, w1, nm_e ?_⟩⟩⟩
          refine od_yn (by omega) ?_
          exact br_f hx hP
    · refine od_Oi (-5) N R z mx k1 k2 k3 k4 k5 k6 k7 k8 up seen st sq hp nx pc own ic io it ms pre box J B (fun P hP => ?_) (fun P hP => ?_)
      · show wpX_discover P (nI N, nI R, mx, nI z, k1, k2, k3, k4, k5, k6, k7, k8, up, seen, st, sq, hp, nx, pc, own, ic, io, it, ms) _ _ _
        unfold wpX_discover
        refine od_xgp (by omega) ha hb hn (br_f (by decide) ?_)
        rw [ca]
        exact ⟨va, br_f hm hP⟩
      · show wpY_discover P (nI N, nI R, mx, nI z, up, own, seen, st, sq, hp, nx, pre, box, ms) _ _ _
        unfold wpY_discover
        refine od_ygp (by omega) ha hb hn ?_
        rw [ca]
        exact ⟨va, br_f hm hP⟩
theorem od_snd (N R z : Nat) (mx k1 k2 k3 k4 k5 k6 k7 k8 : Int32) (up seen st sq hp nx pc own ic io it ms pre box : Nat → Int32) (J : od_J N R z up st nx pc pre ms) (B : od_Bx ic io it box) (v1 v2 x : Int32) : od_O (fun P => wpX_send P (nI N, nI R, mx, nI z, k1, k2, k3, k4, k5, k6, k7, k8, up, seen, st, sq, hp, nx, pc, own, ic, io, it, ms) v1 v2 x) (fun P => wpY_send P (nI N, nI R, mx, nI z, up, own, seen, st, sq, hp, nx, pre, box, ms) v1 v2 x) := by
  have hz := od_Jz J
  rcases od_pair (N := N) (by omega) v1 v2 with h | ⟨a, b, ha, hb, hn, rfl, rfl⟩
  · refine od_Oi (-1) N R z mx k1 k2 k3 k4 k5 k6 k7 k8 up seen st sq hp nx pc own ic io it ms pre box J B (fun P hP => ?_) (fun P hP => ?_)
    · show wpX_send P (nI N, nI R, mx, nI z, k1, k2, k3, k4, k5, k6, k7, k8, up, seen, st, sq, hp, nx, pc, own, ic, io, it, ms) _ _ _
      unfold wpX_send
      exact od_xgpb (by omega) h (br_t rfl hP)
    · show wpY_send P (nI N, nI R, mx, nI z, up, own, seen, st, sq, hp, nx, pre, box, ms) _ _ _
      unfold wpY_send
      exact od_ygpb (by omega) h hP
  · have c : (nI (8 * a + b)).toNatClampNeg = 8 * a + b := nI_clamp (by omega)
    have v : vp_in (nI (8 * a + b)) 64 := vp_in_nI (by omega) (by omega)
    by_cases h2 : st (8 * a + b) = 2
    · obtain ⟨n, hn', en⟩ := od_Jnx J ha hb h2
      have cl : (nI (8 * a + n)).toNatClampNeg = 8 * a + n := nI_clamp (by omega)
      have vl : vp_in (nI (8 * a + n)) 64 := vp_in_nI (by omega) (by omega)
      by_cases hu : up (8 * a + n) = 0
      · obtain ⟨q, z', st', pc', pre', ms', J', _, hX, hY⟩ := od_brk N R z mx k1 k2 k3 k4 k5 k6 k7 k8 up seen st sq hp nx pc own ic io it ms pre box J ha (nI n)
        refine od_Oi (-3) N R z' mx k1 k2 k3 k4 k5 k6 k7 k8 up seen st' sq hp nx pc' own ic io it ms' pre' box J' B (fun P hP => ?_) (fun P hP => ?_)
        · show wpX_send P (nI N, nI R, mx, nI z, k1, k2, k3, k4, k5, k6, k7, k8, up, seen, st, sq, hp, nx, pc, own, ic, io, it, ms) _ _ _
          unfold wpX_send
          refine od_xgp (by omega) ha hb hn (br_f (by decide) ?_)
          refine od_xs ?_
          rw [c]
          refine ⟨v, br_t h2 ⟨v, nm_r en ?_⟩⟩
          refine od_xs ?_
          rw [cl]
          refine ⟨vl, br_t hu ?_⟩
          exact hX _ hP
        · show wpY_send P (nI N, nI R, mx, nI z, up, own, seen, st, sq, hp, nx, pre, box, ms) _ _ _
          unfold wpY_send
          refine od_ygp (by omega) ha hb hn ?_
          rw [od_ye a b, c]
          refine ⟨v, br_t h2 ⟨v, nm_r en ?_⟩⟩
          refine od_yk (by omega) J.2.1 ha hn' (fun _ => br_t rfl ?_) (fun k => absurd hu k)
          exact hY _ hP
      · by_cases hR : z < R
        · refine od_Oi 0 N R (z + 1) mx k1 k2 k3 k4 k5 k6 k7 k8 up seen st sq hp nx pc own ic io it (od_w ms (8 * z) 5 (nI a) (nI n) (nI a) (nI b) 0 0 x) pre box (od_Jp J hR ha hn' ha hb _ _ _ _) B (fun P hP => ?_) (fun P hP => ?_)
          · show wpX_send P (nI N, nI R, mx, nI z, k1, k2, k3, k4, k5, k6, k7, k8, up, seen, st, sq, hp, nx, pc, own, ic, io, it, ms) _ _ _
            unfold wpX_send
            refine od_xgp (by omega) ha hb hn (br_f (by decide) ?_)
            refine od_xs ?_
            rw [c]
            refine ⟨v, br_t h2 ⟨v, nm_r en ?_⟩⟩
            refine od_xs ?_
            rw [cl]
            refine ⟨vl, br_f hu (br_t (nI_lt hR (by omega)) ?_)⟩
            refine od_xo1 hR (by omega) ?_
            refine od_xf1 (by omega) ?_
            exact hP
          · show wpY_send P (nI N, nI R, mx, nI z, up, own, seen, st, sq, hp, nx, pre, box, ms) _ _ _
            unfold wpY_send
            refine od_ygp (by omega) ha hb hn ?_
            rw [od_ye a b, c]
            refine ⟨v, br_t h2 ⟨v, nm_r en ?_⟩⟩
            refine od_yk (by omega) J.2.1 ha hn' (fun k => absurd k hu) (fun _ => br_f (by decide) ?_)
            refine od_yp1 hR (by omega) ?_
            refine br_f (by decide) ?_
            refine od_yx8 (by omega) ?_
            exact hP
        · refine od_Oi (-4) N R z mx k1 k2 k3 k4 k5 k6 k7 k8 up seen st sq hp nx pc own ic io it ms pre box J B (fun P hP => ?_) (fun P hP => ?_)
          · show wpX_send P (nI N, nI R, mx, nI z, k1, k2, k3, k4, k5, k6, k7, k8, up, seen, st, sq, hp, nx, pc, own, ic, io, it, ms) _ _ _
            unfold wpX_send
            refine od_xgp (by omega) ha hb hn (br_f (by decide) ?_)
            refine od_xs ?_
            rw [c]
            refine ⟨v, br_t h2 ⟨v, nm_r en ?_⟩⟩
            refine od_xs ?_
            rw [cl]
            exact ⟨vl, br_f hu (br_f (nI_nlt (by omega) (by omega)) hP)⟩
          · show wpY_send P (nI N, nI R, mx, nI z, up, own, seen, st, sq, hp, nx, pre, box, ms) _ _ _
            unfold wpY_send
            refine od_ygp (by omega) ha hb hn ?_
            rw [od_ye a b, c]
            refine ⟨v, br_t h2 ⟨v, nm_r en ?_⟩⟩
            refine od_yk (by omega) J.2.1 ha hn' (fun k => absurd k hu) (fun _ => br_f (by decide) ?_)
            refine od_yp0 hR (by omega) ?_
            exact br_t rfl hP
    · refine od_Oi (-2) N R z mx k1 k2 k3 k4 k5 k6 k7 k8 up seen st sq hp nx pc own ic io it ms pre box J B (fun P hP => ?_) (fun P hP => ?_)
      · show wpX_send P (nI N, nI R, mx, nI z, k1, k2, k3, k4, k5, k6, k7, k8, up, seen, st, sq, hp, nx, pc, own, ic, io, it, ms) _ _ _
        unfold wpX_send
        refine od_xgp (by omega) ha hb hn (br_f (by decide) ?_)
        refine od_xs ?_
        rw [c]
        exact ⟨v, br_f h2 hP⟩
      · show wpY_send P (nI N, nI R, mx, nI z, up, own, seen, st, sq, hp, nx, pre, box, ms) _ _ _
        unfold wpY_send
        refine od_ygp (by omega) ha hb hn ?_
        rw [od_ye a b, c]
        exact ⟨v, br_f h2 hP⟩
theorem od_dlv (N R z : Nat) (mx k1 k2 k3 k4 k5 k6 k7 k8 : Int32) (up seen st sq hp nx pc own ic io it ms pre box : Nat → Int32) (J : od_J N R z up st nx pc pre ms) (B : od_Bx ic io it box) (v1 : Int32) : od_O (fun P => wpX_deliver P (nI N, nI R, mx, nI z, k1, k2, k3, k4, k5, k6, k7, k8, up, seen, st, sq, hp, nx, pc, own, ic, io, it, ms) v1) (fun P => wpY_deliver P (nI N, nI R, mx, nI z, up, own, seen, st, sq, hp, nx, pre, box, ms) v1) := by
  have hz := od_Jz J
  rcases od_pos (z := z) (by omega) v1 with h | ⟨k, hk, rfl⟩
  · refine od_Oi (-1) N R z mx k1 k2 k3 k4 k5 k6 k7 k8 up seen st sq hp nx pc own ic io it ms pre box J B (fun P hP => ?_) (fun P hP => ?_)
    · show wpX_deliver P (nI N, nI R, mx, nI z, k1, k2, k3, k4, k5, k6, k7, k8, up, seen, st, sq, hp, nx, pc, own, ic, io, it, ms) _
      unfold wpX_deliver
      exact od_xgkb h (br_t rfl hP)
    · show wpY_deliver P (nI N, nI R, mx, nI z, up, own, seen, st, sq, hp, nx, pre, box, ms) _
      unfold wpY_deliver
      exact od_ykb h hP hP
  · refine od_Om (od_del N R z mx k1 k2 k3 k4 k5 k6 k7 k8 up seen st sq hp nx pc own ic io it ms pre box J B hk) (fun P hP => ?_) (fun P hP => hP)
    unfold wpX_deliver
    refine od_xgk (by omega) hk (br_f (by decide) ?_)
    exact hP
theorem od_drp (N R z : Nat) (mx k1 k2 k3 k4 k5 k6 k7 k8 : Int32) (up seen st sq hp nx pc own ic io it ms pre box : Nat → Int32) (J : od_J N R z up st nx pc pre ms) (B : od_Bx ic io it box) (v1 : Int32) : od_O (fun P => wpX_drop P (nI N, nI R, mx, nI z, k1, k2, k3, k4, k5, k6, k7, k8, up, seen, st, sq, hp, nx, pc, own, ic, io, it, ms) v1) (fun P => wpY_drop P (nI N, nI R, mx, nI z, up, own, seen, st, sq, hp, nx, pre, box, ms) v1) := by
  have hz := od_Jz J
  rcases od_pos (z := z) (by omega) v1 with h | ⟨k, hk, rfl⟩
  · refine od_Oi (-1) N R z mx k1 k2 k3 k4 k5 k6 k7 k8 up seen st sq hp nx pc own ic io it ms pre box J B (fun P hP => ?_) (fun P hP => ?_)
    · show wpX_drop P (nI N, nI R, mx, nI z, k1, k2, k3, k4, k5, k6, k7, k8, up, seen, st, sq, hp, nx, pc, own, ic, io, it, ms) _
      unfold wpX_drop
      exact od_xgkb h (br_t rfl hP)
    · show wpY_drop P (nI N, nI R, mx, nI z, up, own, seen, st, sq, hp, nx, pre, box, ms) _
      unfold wpY_drop
      exact od_ykb h hP hP
  · refine od_Oi 0 N R (z - 1) mx k1 k2 k3 k4 k5 k6 k7 k8 up seen st sq hp nx pc own ic io it (od_sh ms (8 * k) (8 * (z - 1))) pre box (od_Jsh J hk) B (fun P hP => ?_) (fun P hP => ?_)
    · show wpX_drop P (nI N, nI R, mx, nI z, k1, k2, k3, k4, k5, k6, k7, k8, up, seen, st, sq, hp, nx, pc, own, ic, io, it, ms) _
      unfold wpX_drop
      refine od_xgk (by omega) hk (br_f (by decide) ?_)
      refine od_xr (by omega) hk ?_
      exact hP
    · exact od_yd (by omega) hk hP
theorem od_cpy (N R z : Nat) (mx k1 k2 k3 k4 k5 k6 k7 k8 : Int32) (up seen st sq hp nx pc own ic io it ms pre box : Nat → Int32) (J : od_J N R z up st nx pc pre ms) (B : od_Bx ic io it box) (v1 : Int32) : od_O (fun P => wpX_copy P (nI N, nI R, mx, nI z, k1, k2, k3, k4, k5, k6, k7, k8, up, seen, st, sq, hp, nx, pc, own, ic, io, it, ms) v1) (fun P => wpY_copy P (nI N, nI R, mx, nI z, up, own, seen, st, sq, hp, nx, pre, box, ms) v1) := by
  have hz := od_Jz J
  rcases od_pos (z := z) (by omega) v1 with h | ⟨k, hk, rfl⟩
  · refine od_Oi (-1) N R z mx k1 k2 k3 k4 k5 k6 k7 k8 up seen st sq hp nx pc own ic io it ms pre box J B (fun P hP => ?_) (fun P hP => ?_)
    · show wpX_copy P (nI N, nI R, mx, nI z, k1, k2, k3, k4, k5, k6, k7, k8, up, seen, st, sq, hp, nx, pc, own, ic, io, it, ms) _
      unfold wpX_copy
      exact od_xgkb h (br_t rfl hP)
    · show wpY_copy P (nI N, nI R, mx, nI z, up, own, seen, st, sq, hp, nx, pre, box, ms) _
      unfold wpY_copy
      exact od_ykb h hP hP
  · by_cases hR : z < R
    · refine od_Oi 0 N R (z + 1) mx k1 k2 k3 k4 k5 k6 k7 k8 up seen st sq hp nx pc own ic io it (od_cp ms k z 8) pre box (od_Jcp J hR hk) B (fun P hP => ?_) (fun P hP => ?_)
      · show wpX_copy P (nI N, nI R, mx, nI z, k1, k2, k3, k4, k5, k6, k7, k8, up, seen, st, sq, hp, nx, pc, own, ic, io, it, ms) _
        unfold wpX_copy
        refine od_xgk (by omega) hk (br_f (by decide) (br_t (nI_lt hR (by omega)) (nm_r (od_m8 k) (nm_r (od_m8 z) ⟨9, ?_⟩))))
        have q := od_xc40 (P := P) (k := k) (by omega) hk hP 8 0 rfl
        rw [od_cp0] at q
        exact q
      · show wpY_copy P (nI N, nI R, mx, nI z, up, own, seen, st, sq, hp, nx, pre, box, ms) _
        unfold wpY_copy
        refine br_f (nI_pos (by omega)) (br_t (nI_lt hk (by omega)) (br_t (nI_lt hR (by omega)) ⟨9, ?_⟩))
        have q := od_yc30 (P := P) (k := k) (by omega) hk hP 8 0 rfl
        rw [od_cp0] at q
        exact q
    · refine od_Oi (-4) N R z mx k1 k2 k3 k4 k5 k6 k7 k8 up seen st sq hp nx pc own ic io it ms pre box J B (fun P hP => ?_) (fun P hP => ?_)
      · show wpX_copy P (nI N, nI R, mx, nI z, k1, k2, k3, k4, k5, k6, k7, k8, up, seen, st, sq, hp, nx, pc, own, ic, io, it, ms) _
        unfold wpX_copy
        exact od_xgk (by omega) hk (br_f (by decide) (br_f (nI_nlt (by omega) (by omega)) hP))
      · show wpY_copy P (nI N, nI R, mx, nI z, up, own, seen, st, sq, hp, nx, pre, box, ms) _
        unfold wpY_copy
        exact br_f (nI_pos (by omega)) (br_t (nI_lt hk (by omega)) (br_f (nI_nlt (by omega) (by omega)) hP))
theorem od_r12 (x : Int32) {M : Nat} (hM : M ≤ 64) : ∀ (m c : Nat) (N R z : Nat) (mx k1 k2 k3 k4 k5 k6 k7 k8 : Int32) (up seen st sq hp nx pc own ic io it ms pre box : Nat → Int32), c + m = M → od_J N R z up st nx pc pre ms → od_Bx ic io it box → od_O (fun P => wX_run_12 P x (nI M) (m + 1) (nI c) (nI N) (nI R) mx (nI z) k1 k2 k3 k4 k5 k6 k7 k8 up seen st sq hp nx pc own ic io it ms) (fun P => wY_run_12 P x (nI M) (m + 1) (nI c) (nI N) (nI R) mx (nI z) up own seen st sq hp nx pre box ms) := by
  intro m
  induction m with
  | zero =>
    intro c N R z mx k1 k2 k3 k4 k5 k6 k7 k8 up seen st sq hp nx pc own ic io it ms pre box hc J B
    have e : c = M := by omega
    subst e
    exact od_Oi (nI c) N R z mx k1 k2 k3 k4 k5 k6 k7 k8 up seen st sq hp nx pc own ic io it ms pre box J B (fun P hP => br_t (nI_le (by omega) (by omega)) hP) (fun P hP => br_t (nI_le (by omega) (by omega)) hP)
  | succ m ih =>
    intro c N R z mx k1 k2 k3 k4 k5 k6 k7 k8 up seen st sq hp nx pc own ic io it ms pre box hc J B
    have hz := od_Jz J
    have hN : ¬ nI M ≤ nI c := nI_ge (by omega) (by omega)
    by_cases h0 : z = 0
    · subst h0
      exact od_Oi (nI c) N R 0 mx k1 k2 k3 k4 k5 k6 k7 k8 up seen st sq hp nx pc own ic io it ms pre box J B (fun P hP => br_f hN (br_t (nI_le (a := 0) (b := 0) (by omega) (by omega)) hP)) (fun P hP => br_f hN (br_t rfl hP))
    · have hpz : ¬ nI z ≤ 0 := nI_nle (by omega) (by omega)
      have hpy : ¬ nI z = 0 := nI_ne0 (by omega) (by omega)
      by_cases hx : x = 0
      · refine od_del N R z mx k1 k2 k3 k4 k5 k6 k7 k8 up seen st sq hp nx pc own ic io it ms pre box J B (k := 0) (by omega) _ ?_
        intro r N' R' z' mx' k1' k2' k3' k4' k5' k6' k7' k8' up' seen' st' sq' hp' nx' pc' own' ic' io' it' ms' pre' box' J' B' hX hY
        refine od_Om (ih (c + 1) N' R' z' mx' k1' k2' k3' k4' k5' k6' k7' k8' up' seen' st' sq' hp' nx' pc' own' ic' io' it' ms' pre' box' (by omega) J' B') (fun P hP => br_f hN (br_f hpz (br_t hx ?_))) (fun P hP => br_f hN (br_f hpy (br_t hx ?_)))
        · unfold wX_run_39
          refine hX _ ?_
          exact nm_r (nI_1 c) hP
        · unfold wY_run_43
          refine hY _ ?_
          exact nm_r (nI_1 c) hP
      · have e1 : nI z - 1 = nI (z - 1) := pk_sub (b := 1) (by omega)
        refine od_del N R z mx k1 k2 k3 k4 k5 k6 k7 k8 up seen st sq hp nx pc own ic io it ms pre box J B (k := z - 1) (by omega) _ ?_
        intro r N' R' z' mx' k1' k2' k3' k4' k5' k6' k7' k8' up' seen' st' sq' hp' nx' pc' own' ic' io' it' ms' pre' box' J' B' hX hY
        refine od_Om (ih (c + 1) N' R' z' mx' k1' k2' k3' k4' k5' k6' k7' k8' up' seen' st' sq' hp' nx' pc' own' ic' io' it' ms' pre' box' (by omega) J' B') (fun P hP => br_f hN (br_f hpz (br_f hx ?_))) (fun P hP => br_f hN (br_f hpy (br_f hx ?_)))
        · unfold wX_run_39
          rw [e1]
          refine hX _ ?_
          exact nm_r (nI_1 c) hP
        · unfold wY_run_43
          rw [e1]
          refine hY _ ?_
          exact nm_r (nI_1 c) hP
theorem od_run (N R z : Nat) (mx k1 k2 k3 k4 k5 k6 k7 k8 : Int32) (up seen st sq hp nx pc own ic io it ms pre box : Nat → Int32) (J : od_J N R z up st nx pc pre ms) (B : od_Bx ic io it box) (v1 x : Int32) : od_O (fun P => wpX_run P (nI N, nI R, mx, nI z, k1, k2, k3, k4, k5, k6, k7, k8, up, seen, st, sq, hp, nx, pc, own, ic, io, it, ms) v1 x) (fun P => wpY_run P (nI N, nI R, mx, nI z, up, own, seen, st, sq, hp, nx, pre, box, ms) v1 x) := by
  obtain ⟨M, _, hM, eM⟩ := od_ckn (x := v1) (a := 0) (b := 64) (A := 0) (B := 64) (by decide) (by decide) (by omega) (by omega)
  refine od_Om (od_r12 x hM M 0 N R z mx k1 k2 k3 k4 k5 k6 k7 k8 up seen st sq hp nx pc own ic io it ms pre box (by omega) J B) (fun P hP => ?_) (fun P hP => ?_)
  · unfold wpX_run
    refine od_xck ?_
    rw [eM]
    exact ⟨M + 1, hP⟩
  · unfold wpY_run
    refine od_yck ?_
    rw [eM]
    exact ⟨M + 1, hP⟩
theorem od_lnk (N R z : Nat) (mx k1 k2 k3 k4 k5 k6 k7 k8 : Int32) (up seen st sq hp nx pc own ic io it ms pre box : Nat → Int32) (J : od_J N R z up st nx pc pre ms) (v1 v2 : Int32) : od_Q (fun P => wpX_linked P (nI N, nI R, mx, nI z, k1, k2, k3, k4, k5, k6, k7, k8, up, seen, st, sq, hp, nx, pc, own, ic, io, it, ms) v1 v2) (fun P => wpY_linked P (nI N, nI R, mx, nI z, up, own, seen, st, sq, hp, nx, pre, box, ms) v1 v2) := by
  have hz := od_Jz J
  rcases od_pair (N := N) (by omega) v1 v2 with h | ⟨a, b, ha, hb, hn, rfl, rfl⟩
  · refine ⟨0, fun P hP => ?_, fun P hP => ?_⟩
    · show wpX_linked P (nI N, nI R, mx, nI z, k1, k2, k3, k4, k5, k6, k7, k8, up, seen, st, sq, hp, nx, pc, own, ic, io, it, ms) _ _
      unfold wpX_linked
      exact od_xgpb (by omega) h (br_t rfl hP)
    · show wpY_linked P (nI N, nI R, mx, nI z, up, own, seen, st, sq, hp, nx, pre, box, ms) _ _
      unfold wpY_linked
      exact od_ygpb (by omega) h hP
  · have c : (nI (8 * a + b)).toNatClampNeg = 8 * a + b := nI_clamp (by omega)
    have v : vp_in (nI (8 * a + b)) 64 := vp_in_nI (by omega) (by omega)
    by_cases hu : up (8 * a + b) = 0
    · refine ⟨0, fun P hP => ?_, fun P hP => ?_⟩
      · show wpX_linked P (nI N, nI R, mx, nI z, k1, k2, k3, k4, k5, k6, k7, k8, up, seen, st, sq, hp, nx, pc, own, ic, io, it, ms) _ _
        unfold wpX_linked
        refine od_xgp (by omega) ha hb hn (br_f (by decide) ?_)
        refine od_xs ?_
        rw [c]
        exact ⟨v, br_t hu hP⟩
      · exact od_yk (by omega) J.2.1 ha hb (fun _ => hP) (fun k => absurd hu k)
    · refine ⟨1, fun P hP => ?_, fun P hP => ?_⟩
      · show wpX_linked P (nI N, nI R, mx, nI z, k1, k2, k3, k4, k5, k6, k7, k8, up, seen, st, sq, hp, nx, pc, own, ic, io, it, ms) _ _
        unfold wpX_linked
        refine od_xgp (by omega) ha hb hn (br_f (by decide) ?_)
        refine od_xs ?_
        rw [c]
        exact ⟨v, br_f hu hP⟩
      · exact od_yk (by omega) J.2.1 ha hb (fun k => absurd k hu) (fun _ => hP)
theorem od_inb (N R z : Nat) (mx k1 k2 k3 k4 k5 k6 k7 k8 : Int32) (up seen st sq hp nx pc own ic io it ms pre box : Nat → Int32) (J : od_J N R z up st nx pc pre ms) (B : od_Bx ic io it box) (v1 v2 : Int32) : od_Q (fun P => wpX_inbox P (nI N, nI R, mx, nI z, k1, k2, k3, k4, k5, k6, k7, k8, up, seen, st, sq, hp, nx, pc, own, ic, io, it, ms) v1 v2) (fun P => wpY_inbox P (nI N, nI R, mx, nI z, up, own, seen, st, sq, hp, nx, pre, box, ms) v1 v2) := by
  have hz := od_Jz J
  rcases od_one (N := N) (by omega) v1 with h | ⟨a, ha, rfl⟩
  · refine ⟨-1, fun P hP => ?_, fun P hP => ?_⟩
    · show wpX_inbox P (nI N, nI R, mx, nI z, k1, k2, k3, k4, k5, k6, k7, k8, up, seen, st, sq, hp, nx, pc, own, ic, io, it, ms) _ _
      unfold wpX_inbox
      exact od_xgb h (br_t rfl hP)
    · show wpY_inbox P (nI N, nI R, mx, nI z, up, own, seen, st, sq, hp, nx, pre, box, ms) _ _
      unfold wpY_inbox
      exact od_ygb h (br_t rfl hP)
  have ca : (nI a).toNatClampNeg = a := nI_clamp (by omega)
  have va : vp_in (nI a) 8 := vp_in_nI (by omega) (by omega)
  by_cases h0 : v2 < 0
  · refine ⟨-1, fun P hP => ?_, fun P hP => ?_⟩
    · show wpX_inbox P (nI N, nI R, mx, nI z, k1, k2, k3, k4, k5, k6, k7, k8, up, seen, st, sq, hp, nx, pc, own, ic, io, it, ms) _ _
      unfold wpX_inbox
      refine od_xg ha (by omega) (br_f (by decide) ?_)
      exact br_t h0 hP
    · show wpY_inbox P (nI N, nI R, mx, nI z, up, own, seen, st, sq, hp, nx, pre, box, ms) _ _
      unfold wpY_inbox
      refine od_yg ha (by omega) (br_f (by decide) ?_)
      exact br_t h0 hP
  by_cases h2 : v2 ≤ 2
  · obtain ⟨j, hj, rfl⟩ := nI_of2 (M := 2) (n := 2) (by decide) h0 h2
    have hx2 : ¬ 2 < nI j := Int32.not_lt.mpr h2
    have c3 : (nI (3 * a + j)).toNatClampNeg = 3 * a + j := nI_clamp (by omega)
    have hY : ∀ P : Int32 → Prop, P (box (3 * a + j)) → wpY_inbox P (nI N, nI R, mx, nI z, up, own, seen, st, sq, hp, nx, pre, box, ms) (nI a) (nI j) := by
      intro P hP
      unfold wpY_inbox
      refine od_yg ha (by omega) (br_f (by decide) ?_)
      refine br_f h0 (br_t h2 ?_)
      rw [od_3m, nI_add, c3]
      exact ⟨vp_in_nI (by omega) (by omega), hP⟩
    have hb := B a (by omega)
    refine ⟨box (3 * a + j), fun P hP => ?_, hY⟩
    show wpX_inbox P (nI N, nI R, mx, nI z, k1, k2, k3, k4, k5, k6, k7, k8, up, seen, st, sq, hp, nx, pc, own, ic, io, it, ms) _ _
    unfold wpX_inbox
    refine od_xg ha (by omega) (br_f (by decide) ?_)
    refine br_f h0 (br_f hx2 ?_)
    rw [ca]
    rcases (by omega : j = 0 ∨ j = 1 ∨ j = 2) with rfl | rfl | rfl
    · refine br_t rfl ⟨va, ?_⟩
      rw [← hb.1]; exact hP
    · refine br_f (by decide) (br_t rfl ⟨va, ?_⟩)
      rw [← hb.2.1]; exact hP
    · refine br_f (by decide) (br_f (by decide) (br_t rfl ⟨va, ?_⟩))
      rw [← hb.2.2]; exact hP
  · refine ⟨-1, fun P hP => ?_, fun P hP => ?_⟩
    · show wpX_inbox P (nI N, nI R, mx, nI z, k1, k2, k3, k4, k5, k6, k7, k8, up, seen, st, sq, hp, nx, pc, own, ic, io, it, ms) _ _
      unfold wpX_inbox
      refine od_xg ha (by omega) (br_f (by decide) ?_)
      exact br_f h0 (br_t (Int32.not_le.mp h2) hP)
    · show wpY_inbox P (nI N, nI R, mx, nI z, up, own, seen, st, sq, hp, nx, pre, box, ms) _ _
      unfold wpY_inbox
      refine od_yg ha (by omega) (br_f (by decide) ?_)
      exact br_f h0 (br_f h2 hP)
theorem od_msg (N R z : Nat) (mx k1 k2 k3 k4 k5 k6 k7 k8 : Int32) (up seen st sq hp nx pc own ic io it ms pre box : Nat → Int32) (J : od_J N R z up st nx pc pre ms) (v1 v2 : Int32) : od_Q (fun P => wpX_message P (nI N, nI R, mx, nI z, k1, k2, k3, k4, k5, k6, k7, k8, up, seen, st, sq, hp, nx, pc, own, ic, io, it, ms) v1 v2) (fun P => wpY_message P (nI N, nI R, mx, nI z, up, own, seen, st, sq, hp, nx, pre, box, ms) v1 v2) := by
  have hz := od_Jz J
  rcases od_pos (z := z) (by omega) v1 with h | ⟨k, hk, rfl⟩
  · refine ⟨-1, fun P hP => ?_, fun P hP => ?_⟩
    · show wpX_message P (nI N, nI R, mx, nI z, k1, k2, k3, k4, k5, k6, k7, k8, up, seen, st, sq, hp, nx, pc, own, ic, io, it, ms) _ _
      unfold wpX_message
      exact od_xgkb h (br_t rfl hP)
    · show wpY_message P (nI N, nI R, mx, nI z, up, own, seen, st, sq, hp, nx, pre, box, ms) _ _
      unfold wpY_message
      by_cases c : v1 < 0
      · exact br_t c hP
      · exact br_f c (br_t (h.resolve_left c) hP)
  have hY : ∀ (P : Int32 → Prop), ((v2 < 0 → P (-1)) ∧ (¬ v2 < 0 → (v2 ≤ 7 → vp_in (8 * nI k + v2) 256 ∧ P (ms (8 * nI k + v2).toNatClampNeg)) ∧ (¬ v2 ≤ 7 → P (-1)))) → wpY_message P (nI N, nI R, mx, nI z, up, own, seen, st, sq, hp, nx, pre, box, ms) (nI k) v2 := by
    intro P hP
    exact br_f (nI_pos (by omega)) (br_f (nI_ge hk (by omega)) hP)
  have hX : ∀ (P : Int32 → Prop), ((v2 < 0 → P (-1)) ∧ (¬ v2 < 0 → (v2 ≤ 7 → vp_in (nI k * 8 + v2) 256 ∧ P (ms (nI k * 8 + v2).toNatClampNeg)) ∧ (¬ v2 ≤ 7 → P (-1)))) → wpX_message P (nI N, nI R, mx, nI z, k1, k2, k3, k4, k5, k6, k7, k8, up, seen, st, sq, hp, nx, pc, own, ic, io, it, ms) (nI k) v2 := by
    intro P hP
    unfold wpX_message
    refine od_xgk (by omega) hk (br_f (by decide) ?_)
    exact hP
  by_cases h0 : v2 < 0
  · exact ⟨-1, fun P hP => hX P (br_t h0 hP), fun P hP => hY P (br_t h0 hP)⟩
  by_cases h7 : v2 ≤ 7
  · obtain ⟨j, hj, rfl⟩ := nI_of2 (M := 7) (n := 7) (by decide) h0 h7
    have c : (nI (8 * k + j)).toNatClampNeg = 8 * k + j := nI_clamp (by omega)
    have v : vp_in (nI (8 * k + j)) 256 := vp_in_nI (by omega) (by omega)
    refine ⟨ms (8 * k + j), fun P hP => hX P (br_f h0 (br_t h7 ?_)), fun P hP => hY P (br_f h0 (br_t h7 ?_))⟩
    · rw [od_se, c]; exact ⟨v, hP⟩
    · rw [od_ye, c]; exact ⟨v, hP⟩
  · exact ⟨-1, fun P hP => hX P (br_f h0 (br_f h7 hP)), fun P hP => hY P (br_f h0 (br_f h7 hP))⟩
end
section
def i_Rel (_ : Nat) (u : SX) (v : SY) : Prop := od_R u v
theorem i_up {k : Nat} {u : SX} {v : SY} (h : i_Rel k u v) : i_Rel (k + 4) u v := h
theorem i_vc0 (k0 : Int32) (k1 : Int32) (k2 : Int32) : wpX_init (fun u => wpY_init (fun v => i_Rel 3 u v) k0 k1 k2) k0 k1 k2 := od_init k0 k1 k2
theorem i_vc_setLink {k : Nat} {u : SX} {v : SY} (I : i_Rel k u v) (hk : k + 4 ≤ 2051) (v1 : Int32) (v2 : Int32) (v3 : Int32) : wpX_setLink (fun r u' => wpY_setLink (fun r' v' => r' = r ∧ i_Rel (k + 4) u' v') v v1 v2 (lw_bz v3)) u v1 v2 (lw_bz v3) := by
  refine I (fun u v => wpX_setLink (fun r u' => wpY_setLink (fun r' v' => r' = r ∧ i_Rel (k + 4) u' v') v v1 v2 (lw_bz v3)) u v1 v2 (lw_bz v3)) ?_
  intro N R z mx k1 k2 k3 k4 k5 k6 k7 k8 up seen st sq hp nx pc own ic io it ms pre box J B
  exact od_fin (od_set N R z mx k1 k2 k3 k4 k5 k6 k7 k8 up seen st sq hp nx pc own ic io it ms pre box J B v1 v2 (lw_bz v3))
theorem i_vc_discover {k : Nat} {u : SX} {v : SY} (I : i_Rel k u v) (hk : k + 4 ≤ 2051) (v1 : Int32) (v2 : Int32) (v3 : Int32) : wpX_discover (fun r u' => wpY_discover (fun r' v' => r' = r ∧ i_Rel (k + 4) u' v') v v1 v2 (lw_bz v3)) u v1 v2 (lw_bz v3) := by
  refine I (fun u v => wpX_discover (fun r u' => wpY_discover (fun r' v' => r' = r ∧ i_Rel (k + 4) u' v') v v1 v2 (lw_bz v3)) u v1 v2 (lw_bz v3)) ?_
  intro N R z mx k1 k2 k3 k4 k5 k6 k7 k8 up seen st sq hp nx pc own ic io it ms pre box J B
  exact od_fin (od_dis N R z mx k1 k2 k3 k4 k5 k6 k7 k8 up seen st sq hp nx pc own ic io it ms pre box J B v1 v2 (lw_bz v3))
theorem i_vc_send {k : Nat} {u : SX} {v : SY} (I : i_Rel k u v) (hk : k + 4 ≤ 2051) (v1 : Int32) (v2 : Int32) (v3 : Int32) : wpX_send (fun r u' => wpY_send (fun r' v' => r' = r ∧ i_Rel (k + 4) u' v') v v1 v2 v3) u v1 v2 v3 := by
  refine I (fun u v => wpX_send (fun r u' => wpY_send (fun r' v' => r' = r ∧ i_Rel (k + 4) u' v') v v1 v2 v3) u v1 v2 v3) ?_
  intro N R z mx k1 k2 k3 k4 k5 k6 k7 k8 up seen st sq hp nx pc own ic io it ms pre box J B
  exact od_fin (od_snd N R z mx k1 k2 k3 k4 k5 k6 k7 k8 up seen st sq hp nx pc own ic io it ms pre box J B v1 v2 v3)
theorem i_vc_probe {k : Nat} {u : SX} {v : SY} (I : i_Rel k u v) (hk : k + 4 ≤ 2051) (v1 : Int32) : wpX_probe (fun r u' => wpY_probe (fun r' v' => r' = r ∧ i_Rel (k + 4) u' v') v v1) u v1 := by
  refine I (fun u v => wpX_probe (fun r u' => wpY_probe (fun r' v' => r' = r ∧ i_Rel (k + 4) u' v') v v1) u v1) ?_
  intro N R z mx k1 k2 k3 k4 k5 k6 k7 k8 up seen st sq hp nx pc own ic io it ms pre box J B
  exact od_fin (od_probe N R z mx k1 k2 k3 k4 k5 k6 k7 k8 up seen st sq hp nx pc own ic io it ms pre box J B v1)
theorem i_vc_deliver {k : Nat} {u : SX} {v : SY} (I : i_Rel k u v) (hk : k + 4 ≤ 2051) (v1 : Int32) : wpX_deliver (fun r u' => wpY_deliver (fun r' v' => r' = r ∧ i_Rel (k + 4) u' v') v v1) u v1 := by
  refine I (fun u v => wpX_deliver (fun r u' => wpY_deliver (fun r' v' => r' = r ∧ i_Rel (k + 4) u' v') v v1) u v1) ?_
  intro N R z mx k1 k2 k3 k4 k5 k6 k7 k8 up seen st sq hp nx pc own ic io it ms pre box J B
  exact od_fin (od_dlv N R z mx k1 k2 k3 k4 k5 k6 k7 k8 up seen st sq hp nx pc own ic io it ms pre box J B v1)
theorem i_vc_drop {k : Nat} {u : SX} {v : SY} (I : i_Rel k u v) (hk : k + 4 ≤ 2051) (v1 : Int32) : wpX_drop (fun r u' => wpY_drop (fun r' v' => r' = r ∧ i_Rel (k + 4) u' v') v v1) u v1 := by
  refine I (fun u v => wpX_drop (fun r u' => wpY_drop (fun r' v' => r' = r ∧ i_Rel (k + 4) u' v') v v1) u v1) ?_
  intro N R z mx k1 k2 k3 k4 k5 k6 k7 k8 up seen st sq hp nx pc own ic io it ms pre box J B
  exact od_fin (od_drp N R z mx k1 k2 k3 k4 k5 k6 k7 k8 up seen st sq hp nx pc own ic io it ms pre box J B v1)
theorem i_vc_copy {k : Nat} {u : SX} {v : SY} (I : i_Rel k u v) (hk : k + 4 ≤ 2051) (v1 : Int32) : wpX_copy (fun r u' => wpY_copy (fun r' v' => r' = r ∧ i_Rel (k + 4) u' v') v v1) u v1 := by
  refine I (fun u v => wpX_copy (fun r u' => wpY_copy (fun r' v' => r' = r ∧ i_Rel (k + 4) u' v') v v1) u v1) ?_
  intro N R z mx k1 k2 k3 k4 k5 k6 k7 k8 up seen st sq hp nx pc own ic io it ms pre box J B
  exact od_fin (od_cpy N R z mx k1 k2 k3 k4 k5 k6 k7 k8 up seen st sq hp nx pc own ic io it ms pre box J B v1)
theorem i_vc_run {k : Nat} {u : SX} {v : SY} (I : i_Rel k u v) (hk : k + 4 ≤ 2051) (v1 : Int32) (v2 : Int32) : wpX_run (fun r u' => wpY_run (fun r' v' => r' = r ∧ i_Rel (k + 4) u' v') v v1 (lw_bz v2)) u v1 (lw_bz v2) := by
  refine I (fun u v => wpX_run (fun r u' => wpY_run (fun r' v' => r' = r ∧ i_Rel (k + 4) u' v') v v1 (lw_bz v2)) u v1 (lw_bz v2)) ?_
  intro N R z mx k1 k2 k3 k4 k5 k6 k7 k8 up seen st sq hp nx pc own ic io it ms pre box J B
  exact od_fin (od_run N R z mx k1 k2 k3 k4 k5 k6 k7 k8 up seen st sq hp nx pc own ic io it ms pre box J B v1 (lw_bz v2))
theorem i_vc_linked {k : Nat} {u : SX} {v : SY} (I : i_Rel k u v) (hk : k + 4 ≤ 2051) (v1 : Int32) (v2 : Int32) : wpX_linked (fun r => wpY_linked (fun r' => r' = r ∧ i_Rel (k + 4) u v) v v1 v2) u v1 v2 := by
  refine I (fun u v => wpX_linked (fun r => wpY_linked (fun r' => r' = r ∧ i_Rel (k + 4) u v) v v1 v2) u v1 v2) ?_
  intro N R z mx k1 k2 k3 k4 k5 k6 k7 k8 up seen st sq hp nx pc own ic io it ms pre box J B
  exact od_finq (od_lnk N R z mx k1 k2 k3 k4 k5 k6 k7 k8 up seen st sq hp nx pc own ic io it ms pre box J v1 v2) (od_Ri N R z mx k1 k2 k3 k4 k5 k6 k7 k8 up seen st sq hp nx pc own ic io it ms pre box J B)
theorem i_vc_entry {k : Nat} {u : SX} {v : SY} (I : i_Rel k u v) (hk : k + 4 ≤ 2051) (v1 : Int32) (v2 : Int32) (v3 : Int32) : wpX_entry (fun r => wpY_entry (fun r' => r' = r ∧ i_Rel (k + 4) u v) v v1 v2 v3) u v1 v2 v3 := by
  refine I (fun u v => wpX_entry (fun r => wpY_entry (fun r' => r' = r ∧ i_Rel (k + 4) u v) v v1 v2 v3) u v1 v2 v3) ?_
  intro N R z mx k1 k2 k3 k4 k5 k6 k7 k8 up seen st sq hp nx pc own ic io it ms pre box J B
  exact od_finq (od_ent N R z mx k1 k2 k3 k4 k5 k6 k7 k8 up seen st sq hp nx pc own ic io it ms pre box J v1 v2 v3) (od_Ri N R z mx k1 k2 k3 k4 k5 k6 k7 k8 up seen st sq hp nx pc own ic io it ms pre box J B)
theorem i_vc_inbox {k : Nat} {u : SX} {v : SY} (I : i_Rel k u v) (hk : k + 4 ≤ 2051) (v1 : Int32) (v2 : Int32) : wpX_inbox (fun r => wpY_inbox (fun r' => r' = r ∧ i_Rel (k + 4) u v) v v1 v2) u v1 v2 := by
  refine I (fun u v => wpX_inbox (fun r => wpY_inbox (fun r' => r' = r ∧ i_Rel (k + 4) u v) v v1 v2) u v1 v2) ?_
  intro N R z mx k1 k2 k3 k4 k5 k6 k7 k8 up seen st sq hp nx pc own ic io it ms pre box J B
  exact od_finq (od_inb N R z mx k1 k2 k3 k4 k5 k6 k7 k8 up seen st sq hp nx pc own ic io it ms pre box J B v1 v2) (od_Ri N R z mx k1 k2 k3 k4 k5 k6 k7 k8 up seen st sq hp nx pc own ic io it ms pre box J B)
theorem i_vc_pooled {k : Nat} {u : SX} {v : SY} (I : i_Rel k u v) (hk : k + 4 ≤ 2051) : wpX_pooled (fun r => wpY_pooled (fun r' => r' = r ∧ i_Rel (k + 4) u v) v) u := by
  refine I (fun u v => wpX_pooled (fun r => wpY_pooled (fun r' => r' = r ∧ i_Rel (k + 4) u v) v) u) ?_
  intro N R z mx k1 k2 k3 k4 k5 k6 k7 k8 up seen st sq hp nx pc own ic io it ms pre box J B
  exact ⟨rfl, od_Ri N R z mx k1 k2 k3 k4 k5 k6 k7 k8 up seen st sq hp nx pc own ic io it ms pre box J B⟩
theorem i_vc_message {k : Nat} {u : SX} {v : SY} (I : i_Rel k u v) (hk : k + 4 ≤ 2051) (v1 : Int32) (v2 : Int32) : wpX_message (fun r => wpY_message (fun r' => r' = r ∧ i_Rel (k + 4) u v) v v1 v2) u v1 v2 := by
  refine I (fun u v => wpX_message (fun r => wpY_message (fun r' => r' = r ∧ i_Rel (k + 4) u v) v v1 v2) u v1 v2) ?_
  intro N R z mx k1 k2 k3 k4 k5 k6 k7 k8 up seen st sq hp nx pc own ic io it ms pre box J B
  exact od_finq (od_msg N R z mx k1 k2 k3 k4 k5 k6 k7 k8 up seen st sq hp nx pc own ic io it ms pre box J v1 v2) (od_Ri N R z mx k1 k2 k3 k4 k5 k6 k7 k8 up seen st sq hp nx pc own ic io it ms pre box J B)
theorem i_vc_trace {k : Nat} {u : SX} {v : SY} (I : i_Rel k u v) (hk : k + 4 ≤ 2051) (v1 : Int32) (v2 : Int32) : wpX_trace (fun r => wpY_trace (fun r' => r' = r ∧ i_Rel (k + 4) u v) v v1 v2) u v1 v2 := by
  refine I (fun u v => wpX_trace (fun r => wpY_trace (fun r' => r' = r ∧ i_Rel (k + 4) u v) v v1 v2) u v1 v2) ?_
  intro N R z mx k1 k2 k3 k4 k5 k6 k7 k8 up seen st sq hp nx pc own ic io it ms pre box J B
  exact od_finq (od_trace N R z mx k1 k2 k3 k4 k5 k6 k7 k8 up seen st sq hp nx pc own ic io it ms pre box J v1 v2) (od_Ri N R z mx k1 k2 k3 k4 k5 k6 k7 k8 up seen st sq hp nx pc own ic io it ms pre box J B)
theorem i_vc_carried {k : Nat} {u : SX} {v : SY} (I : i_Rel k u v) (hk : k + 4 ≤ 2051) (v1 : Int32) (v2 : Int32) : wpX_carried (fun r => wpY_carried (fun r' => r' = r ∧ i_Rel (k + 4) u v) v v1 v2) u v1 v2 := by
  refine I (fun u v => wpX_carried (fun r => wpY_carried (fun r' => r' = r ∧ i_Rel (k + 4) u v) v v1 v2) u v1 v2) ?_
  intro N R z mx k1 k2 k3 k4 k5 k6 k7 k8 up seen st sq hp nx pc own ic io it ms pre box J B
  exact od_finq (od_carried N R z mx k1 k2 k3 k4 k5 k6 k7 k8 up seen st sq hp nx pc own ic io it ms pre box J v1 v2) (od_Ri N R z mx k1 k2 k3 k4 k5 k6 k7 k8 up seen st sq hp nx pc own ic io it ms pre box J B)
end
