section
/-! THE FIELD: 283 bits, the operator 'times x' (gf_x), and all of the ring's laws out of it -/
abbrev gf_V : Type := BitVec 283
def gf_c : gf_V := 0x10A1#283
def gf_b (b : Bool) (v : gf_V) : gf_V := bif b then v else 0#283
def gf_x (a : gf_V) : gf_V := (a <<< 1) ^^^ gf_b (a.getLsbD 282) gf_c
def gf_xn : Nat → gf_V → gf_V
  | 0, a => a
  | n + 1, a => gf_x (gf_xn n a)
theorem gf_b_xor (b : Bool) (u v : gf_V) : gf_b b (u ^^^ v) = gf_b b u ^^^ gf_b b v := by
  cases b <;> simp [gf_b]
theorem gf_bx (a b : Bool) (v : gf_V) : gf_b (a ^^ b) v = gf_b a v ^^^ gf_b b v := by
  cases a <;> cases b <;> simp [gf_b]
theorem gf_b0 (b : Bool) : gf_b b 0#283 = 0#283 := by cases b <;> rfl
theorem gf_b_get (b : Bool) (v : gf_V) (j : Nat) : (gf_b b v).getLsbD j = (b && v.getLsbD j) := by
  cases b <;> simp [gf_b]
theorem gf_4 (a b c d : gf_V) : (a ^^^ b) ^^^ (c ^^^ d) = (a ^^^ c) ^^^ (b ^^^ d) := by ac_rfl
theorem gf_x_add (a b : gf_V) : gf_x (a ^^^ b) = gf_x a ^^^ gf_x b := by
  unfold gf_x
  rw [BitVec.shiftLeft_xor_distrib, BitVec.getLsbD_xor, gf_bx, gf_4]
theorem gf_x_0 : gf_x 0#283 = 0#283 := by decide +kernel
theorem gf_x_b (b : Bool) (v : gf_V) : gf_x (gf_b b v) = gf_b b (gf_x v) := by
  cases b
  · exact gf_x_0
  · rfl
theorem gf_xn_add (n : Nat) (a b : gf_V) : gf_xn n (a ^^^ b) = gf_xn n a ^^^ gf_xn n b := by
  induction n with
  | zero => rfl
  | succ n ih =>
    show gf_x (gf_xn n (a ^^^ b)) = gf_x (gf_xn n a) ^^^ gf_x (gf_xn n b)
    rw [ih, gf_x_add]
theorem gf_xn_0 (n : Nat) : gf_xn n 0#283 = 0#283 := by
  induction n with
  | zero => rfl
  | succ n ih =>
    show gf_x (gf_xn n 0#283) = 0#283
    rw [ih, gf_x_0]
theorem gf_xn_x (n : Nat) (a : gf_V) : gf_xn n (gf_x a) = gf_x (gf_xn n a) := by
  induction n with
  | zero => rfl
  | succ n ih =>
    show gf_x (gf_xn n (gf_x a)) = gf_x (gf_x (gf_xn n a))
    rw [ih]
theorem gf_xn_xn (m n : Nat) (a : gf_V) : gf_xn (m + n) a = gf_xn m (gf_xn n a) := by
  induction m with
  | zero => rw [Nat.zero_add]; rfl
  | succ m ih =>
    rw [Nat.succ_add]
    show gf_x (gf_xn (m + n) a) = gf_x (gf_xn m (gf_xn n a))
    rw [ih]
theorem gf_xn_b (n : Nat) (b : Bool) (v : gf_V) : gf_xn n (gf_b b v) = gf_b b (gf_xn n v) := by
  cases b
  · exact gf_xn_0 n
  · rfl
-- sums
def gf_S : Nat → (Nat → gf_V) → gf_V
  | 0, _ => 0#283
  | n + 1, g => gf_S n g ^^^ g n
theorem gf_S_add (n : Nat) (g h : Nat → gf_V) : gf_S n (fun i => g i ^^^ h i) = gf_S n g ^^^ gf_S n h := by
  induction n with
  | zero => simp [gf_S]
  | succ n ih =>
    show gf_S n (fun i => g i ^^^ h i) ^^^ (g n ^^^ h n) = (gf_S n g ^^^ g n) ^^^ (gf_S n h ^^^ h n)
    rw [ih, gf_4]
theorem gf_S_congr {n : Nat} {g h : Nat → gf_V} (e : ∀ i, i < n → g i = h i) : gf_S n g = gf_S n h := by
  induction n with
  | zero => rfl
  | succ n ih =>
    show gf_S n g ^^^ g n = gf_S n h ^^^ h n
    rw [ih (fun i hi => e i (Nat.lt_succ_of_lt hi)), e n (Nat.lt_succ_self n)]
theorem gf_S_map (f : gf_V → gf_V) (h0 : f 0#283 = 0#283) (hf : ∀ a b, f (a ^^^ b) = f a ^^^ f b) (n : Nat) (g : Nat → gf_V) : f (gf_S n g) = gf_S n (fun i => f (g i)) := by
  induction n with
  | zero => exact h0
  | succ n ih =>
    show f (gf_S n g ^^^ g n) = gf_S n (fun i => f (g i)) ^^^ f (g n)
    rw [hf, ih]
theorem gf_S_tail (n m : Nat) {g : Nat → gf_V} (e : ∀ i, n ≤ i → g i = 0#283) : gf_S (n + m) g = gf_S n g := by
  induction m with
  | zero => rfl
  | succ m ih =>
    show gf_S (n + m) g ^^^ g (n + m) = gf_S n g
    rw [ih, e (n + m) (Nat.le_add_right n m), BitVec.xor_zero]
theorem gf_S_two (n : Nat) (g : Nat → gf_V) : gf_S (2 * n) g = gf_S n (fun i => g (2 * i) ^^^ g (2 * i + 1)) := by
  induction n with
  | zero => rfl
  | succ n ih =>
    show (gf_S (2 * n) g ^^^ g (2 * n)) ^^^ g (2 * n + 1) = gf_S n (fun i => g (2 * i) ^^^ g (2 * i + 1)) ^^^ (g (2 * n) ^^^ g (2 * n + 1))
    rw [ih, BitVec.xor_assoc]
-- no overflow: the operator is a shift
theorem gf_sh (n : Nat) (v : gf_V) (h : ∀ j, 283 ≤ j + n → v.getLsbD j = false) : gf_xn n v = v <<< n := by
  induction n with
  | zero => rw [BitVec.shiftLeft_zero]; rfl
  | succ n ih =>
    show gf_x (gf_xn n v) = v <<< (n + 1)
    rw [ih (fun j hj => h j (by omega)), BitVec.shiftLeft_add]
    unfold gf_x
    have e : (v <<< n).getLsbD 282 = false := by
      rw [BitVec.getLsbD_shiftLeft]
      by_cases hn : 282 < n
      · simp [hn]
      · rw [h (282 - n) (by omega)]
        simp
    rw [e]
    show (v <<< n) <<< 1 ^^^ 0#283 = _
    rw [BitVec.xor_zero]
theorem gf_one (i j : Nat) (hi : i < 283) : (gf_xn i 1#283).getLsbD j = decide (j = i) := by
  rw [gf_sh i 1#283 (fun k hk => by rw [BitVec.getLsbD_one]; simp; omega), BitVec.getLsbD_shiftLeft, BitVec.getLsbD_one]
  by_cases e : j = i
  · subst e; simp [hi]
  · by_cases e2 : j < i
    · simp [e2, e]
    · have e3 : ¬ j - i = 0 := by omega
      simp [e, e3]
theorem gf_rep (a : gf_V) : gf_S 283 (fun i => gf_b (a.getLsbD i) (gf_xn i 1#283)) = a := by
  have key : ∀ n, n ≤ 283 → ∀ j, (gf_S n (fun i => gf_b (a.getLsbD i) (gf_xn i 1#283))).getLsbD j = (decide (j < n) && a.getLsbD j) := by
    intro n
    induction n with
    | zero => intro _ j; simp [gf_S]
    | succ n ih =>
      intro hn j
      show (gf_S n (fun i => gf_b (a.getLsbD i) (gf_xn i 1#283)) ^^^ gf_b (a.getLsbD n) (gf_xn n 1#283)).getLsbD j = _
      rw [BitVec.getLsbD_xor, ih (by omega), gf_b_get, gf_one n j (by omega)]
      by_cases e : j = n
      · subst e; simp
      · by_cases e2 : j < n
        · have e3 : j < n + 1 := by omega
          simp [e, e2, e3]
        · have e3 : ¬ j < n + 1 := by omega
          simp [e, e2, e3]
  apply BitVec.eq_of_getLsbD_eq
  intro j hj
  rw [key 283 (Nat.le_refl _)]
  simp [hj]
/-- what holds of 1, and goes through sums and through x, holds of all -/
theorem gf_ind (P : gf_V → Prop) (h1 : P 1#283) (hadd : ∀ a b, P a → P b → P (a ^^^ b)) (hx : ∀ a, P a → P (gf_x a)) (a : gf_V) : P a := by
  have h0 : P 0#283 := by
    have h := hadd _ _ h1 h1
    rwa [BitVec.xor_self] at h
  have hn : ∀ n, P (gf_xn n 1#283) := by
    intro n
    induction n with
    | zero => exact h1
    | succ n ih => exact hx _ ih
  have hs : ∀ n, P (gf_S n (fun i => gf_b (a.getLsbD i) (gf_xn i 1#283))) := by
    intro n
    induction n with
    | zero => exact h0
    | succ n ih =>
      refine hadd _ _ ih ?_
      show P (gf_b (a.getLsbD n) (gf_xn n 1#283))
      cases a.getLsbD n
      · exact h0
      · exact hn n
  have h := hs 283
  rwa [gf_rep] at h
theorem gf_ind2 (P : gf_V → Prop) (h0 : P 0#283) (hadd : ∀ a b, P a → P b → P (a ^^^ b)) (hx : ∀ i, i < 283 → P (gf_xn i 1#283)) (a : gf_V) : P a := by
  have hs : ∀ n, n ≤ 283 → P (gf_S n (fun i => gf_b (a.getLsbD i) (gf_xn i 1#283))) := by
    intro n
    induction n with
    | zero => intro _; exact h0
    | succ n ih =>
      intro hn
      refine hadd _ _ (ih (by omega)) ?_
      show P (gf_b (a.getLsbD n) (gf_xn n 1#283))
      cases a.getLsbD n
      · exact h0
      · exact hx n hn
  have h := hs 283 (Nat.le_refl _)
  rwa [gf_rep] at h
-- the product
def gf_mul (a b : gf_V) : gf_V := gf_S 283 (fun i => gf_b (b.getLsbD i) (gf_xn i a))
theorem gf_mul_add_l (a b c : gf_V) : gf_mul (a ^^^ b) c = gf_mul a c ^^^ gf_mul b c := by
  unfold gf_mul
  rw [← gf_S_add]
  exact gf_S_congr (fun i _ => by rw [gf_xn_add, gf_b_xor])
theorem gf_mul_add_r (a b c : gf_V) : gf_mul a (b ^^^ c) = gf_mul a b ^^^ gf_mul a c := by
  unfold gf_mul
  rw [← gf_S_add]
  exact gf_S_congr (fun i _ => by rw [BitVec.getLsbD_xor, gf_bx])
theorem gf_mul_x_l (a b : gf_V) : gf_mul (gf_x a) b = gf_x (gf_mul a b) := by
  unfold gf_mul
  rw [gf_S_map gf_x gf_x_0 gf_x_add]
  exact gf_S_congr (fun i _ => by rw [gf_xn_x, gf_x_b])
theorem gf_mul_1_l (b : gf_V) : gf_mul 1#283 b = b := gf_rep b
theorem gf_mul_1_r (b : gf_V) : gf_mul b 1#283 = b :=
  gf_ind (fun b => gf_mul b 1#283 = b) (gf_mul_1_l _) (fun a b ha hb => by rw [gf_mul_add_l, ha, hb]) (fun a ha => by rw [gf_mul_x_l, ha]) b
theorem gf_mul_x_r (a b : gf_V) : gf_mul a (gf_x b) = gf_x (gf_mul a b) :=
  gf_ind (fun a => gf_mul a (gf_x b) = gf_x (gf_mul a b)) (by rw [gf_mul_1_l, gf_mul_1_l]) (fun a c ha hc => by rw [gf_mul_add_l, gf_mul_add_l, ha, hc, gf_x_add]) (fun a ha => by rw [gf_mul_x_l, gf_mul_x_l, ha]) a
theorem gf_mul_comm (a b : gf_V) : gf_mul a b = gf_mul b a :=
  gf_ind (fun a => gf_mul a b = gf_mul b a) (by rw [gf_mul_1_l, gf_mul_1_r]) (fun a c ha hc => by rw [gf_mul_add_l, gf_mul_add_r, ha, hc]) (fun a ha => by rw [gf_mul_x_l, gf_mul_x_r, ha]) a
theorem gf_mul_assoc (a b c : gf_V) : gf_mul (gf_mul a b) c = gf_mul a (gf_mul b c) :=
  gf_ind (fun a => gf_mul (gf_mul a b) c = gf_mul a (gf_mul b c)) (by rw [gf_mul_1_l, gf_mul_1_l]) (fun a d ha hd => by rw [gf_mul_add_l, gf_mul_add_l, gf_mul_add_l, ha, hd]) (fun a ha => by rw [gf_mul_x_l, gf_mul_x_l, gf_mul_x_l, ha]) a
theorem gf_mul_xn_l (n : Nat) (a b : gf_V) : gf_mul (gf_xn n a) b = gf_xn n (gf_mul a b) := by
  induction n with
  | zero => rfl
  | succ n ih =>
    show gf_mul (gf_x (gf_xn n a)) b = gf_x (gf_xn n (gf_mul a b))
    rw [gf_mul_x_l, ih]
theorem gf_mul_xn_r (n : Nat) (a b : gf_V) : gf_mul a (gf_xn n b) = gf_xn n (gf_mul a b) := by
  rw [gf_mul_comm, gf_mul_xn_l, gf_mul_comm]
theorem gf_mul_0_l (b : gf_V) : gf_mul 0#283 b = 0#283 := by
  have h := gf_mul_add_l 0#283 0#283 b
  rw [BitVec.xor_self, BitVec.xor_self] at h
  exact h
theorem gf_mul_0_r (b : gf_V) : gf_mul b 0#283 = 0#283 := by rw [gf_mul_comm, gf_mul_0_l]
-- squares
def gf_sq (a : gf_V) : gf_V := gf_mul a a
theorem gf_can (p q r : gf_V) : (p ^^^ q) ^^^ (q ^^^ r) = p ^^^ r := by
  rw [BitVec.xor_assoc, ← BitVec.xor_assoc q q r, BitVec.xor_self, BitVec.zero_xor]
theorem gf_sq_add (a b : gf_V) : gf_sq (a ^^^ b) = gf_sq a ^^^ gf_sq b := by
  unfold gf_sq
  rw [gf_mul_add_l, gf_mul_add_r, gf_mul_add_r, gf_mul_comm b a, gf_can]
theorem gf_sq_0 : gf_sq 0#283 = 0#283 := gf_mul_0_l _
theorem gf_sq_1 : gf_sq 1#283 = 1#283 := gf_mul_1_l _
theorem gf_sq_b (b : Bool) (v : gf_V) : gf_sq (gf_b b v) = gf_b b (gf_sq v) := by
  cases b
  · exact gf_sq_0
  · rfl
theorem gf_sq_mul (a b : gf_V) : gf_sq (gf_mul a b) = gf_mul (gf_sq a) (gf_sq b) := by
  unfold gf_sq
  rw [gf_mul_assoc, ← gf_mul_assoc b a b, gf_mul_comm b a, gf_mul_assoc a b b, ← gf_mul_assoc a a (gf_mul b b)]
theorem gf_sq_x (a : gf_V) : gf_sq (gf_x a) = gf_x (gf_x (gf_sq a)) := by
  unfold gf_sq
  rw [gf_mul_x_l, gf_mul_x_r]
theorem gf_sq_xn (n : Nat) (a : gf_V) : gf_sq (gf_xn n a) = gf_xn (n + n) (gf_sq a) := by
  unfold gf_sq
  rw [gf_mul_xn_l, gf_mul_xn_r, ← gf_xn_xn]
def gf_sqn : Nat → gf_V → gf_V
  | 0, a => a
  | n + 1, a => gf_sq (gf_sqn n a)
theorem gf_sqn_add (n : Nat) (a b : gf_V) : gf_sqn n (a ^^^ b) = gf_sqn n a ^^^ gf_sqn n b := by
  induction n with
  | zero => rfl
  | succ n ih =>
    show gf_sq (gf_sqn n (a ^^^ b)) = gf_sq (gf_sqn n a) ^^^ gf_sq (gf_sqn n b)
    rw [ih, gf_sq_add]
theorem gf_sqn_mul (n : Nat) (a b : gf_V) : gf_sqn n (gf_mul a b) = gf_mul (gf_sqn n a) (gf_sqn n b) := by
  induction n with
  | zero => rfl
  | succ n ih =>
    show gf_sq (gf_sqn n (gf_mul a b)) = gf_mul (gf_sq (gf_sqn n a)) (gf_sq (gf_sqn n b))
    rw [ih, gf_sq_mul]
theorem gf_sqn_1 (n : Nat) : gf_sqn n 1#283 = 1#283 := by
  induction n with
  | zero => rfl
  | succ n ih =>
    show gf_sq (gf_sqn n 1#283) = 1#283
    rw [ih, gf_sq_1]
theorem gf_sqn_0 (n : Nat) : gf_sqn n 0#283 = 0#283 := by
  induction n with
  | zero => rfl
  | succ n ih =>
    show gf_sq (gf_sqn n 0#283) = 0#283
    rw [ih, gf_sq_0]
theorem gf_sqn_sq (n : Nat) (a : gf_V) : gf_sqn n (gf_sq a) = gf_sq (gf_sqn n a) := by
  induction n with
  | zero => rfl
  | succ n ih =>
    show gf_sq (gf_sqn n (gf_sq a)) = gf_sq (gf_sq (gf_sqn n a))
    rw [ih]
theorem gf_sqn_sqn (m n : Nat) (a : gf_V) : gf_sqn (m + n) a = gf_sqn m (gf_sqn n a) := by
  induction m with
  | zero => rw [Nat.zero_add]; rfl
  | succ m ih =>
    rw [Nat.succ_add]
    show gf_sq (gf_sqn (m + n) a) = gf_sq (gf_sqn m (gf_sqn n a))
    rw [ih]
theorem gf_x_mul (a : gf_V) : gf_mul (gf_x 1#283) a = gf_x a := by rw [gf_mul_x_l, gf_mul_1_l]
-- powers 2^k - 1
def gf_T (a : gf_V) : Nat → gf_V
  | 0 => 1#283
  | k + 1 => gf_mul (gf_sq (gf_T a k)) a
theorem gf_T_1 (a : gf_V) : gf_T a 1 = a := by
  show gf_mul (gf_sq 1#283) a = a
  rw [gf_sq_1, gf_mul_1_l]
theorem gf_T_add (a : gf_V) (m n : Nat) : gf_T a (m + n) = gf_mul (gf_sqn m (gf_T a n)) (gf_T a m) := by
  induction m with
  | zero =>
    rw [Nat.zero_add]
    exact (gf_mul_1_r _).symm
  | succ m ih =>
    rw [Nat.succ_add]
    show gf_mul (gf_sq (gf_T a (m + n))) a = gf_mul (gf_sq (gf_sqn m (gf_T a n))) (gf_mul (gf_sq (gf_T a m)) a)
    rw [ih, gf_sq_mul, gf_mul_assoc]
end
section
/-! SQUARES BY FEW OPERATIONS ON NUMBERS, for the kernel to compute with; the facts that it computes: x to the 2^283 is x; the traces of the powers of x -/
noncomputable def gf_frc (n : Nat) (k : Nat → Nat) : Nat := Nat.rec (motive := fun _ => Nat) (k 0) (fun m _ => k (Nat.succ m)) n
theorem gf_frc_eq (n : Nat) (k : Nat → Nat) : gf_frc n k = k n := by cases n <;> rfl
def gf_st (s M v : Nat) : Nat := Nat.land (Nat.xor v (Nat.shiftLeft v s)) M
def gf_fo (w : Nat) : Nat := Nat.xor (Nat.xor (Nat.xor (Nat.xor (Nat.land w 15541351137805832567355695254588151253139254712417116170014499277911234281641667985407) (Nat.shiftRight w 283)) (Nat.shiftLeft (Nat.shiftRight w 283) 5)) (Nat.shiftLeft (Nat.shiftRight w 283) 7)) (Nat.shiftLeft (Nat.shiftRight w 283) 12)
noncomputable def gf_q (a : Nat) : Nat := gf_frc (gf_st 256 1552518092300708935148979488462502555256886017116696611139052038026050952686363478522948466231546903925489524851003593840350987650737090830000565511011107708019742339038878425693560262461319812044393910951468561638530421117939613695 a) fun v => gf_frc (gf_st 128 528294531135665246352339784916516606517294807943820813192811729538211400001472535897918181471736777028254044331895631613250787768007518677792952317086889741124906620767309129894662251090542585738100845990744019557890744873615362666431441255911497635040213580733791338495 v) fun v => gf_frc (gf_st 64 9745314011399999079825087856739523064552525976596965881551925397018201298194122315297074087275581256833590487601395744005744951780045343217449061696331431509203394542567385587901876228620663761300800549174547043425925390537456083938846363324592488964804017437595582105683670264434074320895 v) fun v => gf_frc (gf_st 32 41855804958468253215416862131907979778454107725009450118155365586182407620204276291770907358880301160328046586258184810029483623519757063820280685745923183539846145986816692000600865017772938381340388341514537443249396336985068988168808660090905282896115730467361995897392102061092763730264872452095 v) fun v => gf_frc (gf_st 16 2743020179230535281946541939345750848555742525508196244463891865018732560317087494586393599377565894397365059124943060525486210366883083181910179450378780297812958991483673120165741788626975511839923752263378027203536180819116878732226270817108308850929253867045887029310881577406346282326553799069597695 v) fun v => gf_frc (gf_st 8 699491492164325255925799685131916238761858746670158199507510043415302240488330595847114697752558505918755306925569623959761827894219519931878783776807292312753960674804924067222965835024303868169078143782431929061627045456585458682777872025450689638767900819784382483423919244896808234649164810621105930495 v) fun v => gf_frc (gf_st 4 10574665499190093574878265828170733727164570464366509251378240068101922106205939007806381018965149177712947875286552550450517045224377448381932201802322007316339287848521499133900130564779182007026651938357941515814008863667203698910230182972989837480197088863799194014114543878734100959107962137036719066895 v) fun v => gf_frc (gf_st 2 35953862697246318154586103815780494672359539578846131454686016231546535161100192626541695464481507204224022775974278671531757953762883324498569486127894824875553578684973097055260443920249218823890616590417001153767630136468492576294782622108165447432670102136917259647989449187695943260967071265924844827443 v) fun v => gf_frc (gf_st 1 59923104495410530257643506359634157787265899298076885757810027052577558601833654377569492440802512007040037959957131119219596589604805540830949143546491374792589297808288495092100739867082031373151027650695001922946050227447487627157971036846942412387783503561528766079982415312826572101611785443208074712405 v) fun v => gf_frc (gf_fo v) fun v => gf_frc (gf_fo v) fun v => Nat.mod v 15541351137805832567355695254588151253139254712417116170014499277911234281641667985408
theorem gf_st_add (s M a b : Nat) : gf_st s M (a ^^^ b) = gf_st s M a ^^^ gf_st s M b := by
  show ((a ^^^ b) ^^^ ((a ^^^ b) <<< s)) &&& M = ((a ^^^ (a <<< s)) &&& M) ^^^ ((b ^^^ (b <<< s)) &&& M)
  rw [Nat.shiftLeft_xor_distrib, ← Nat.and_xor_distrib_right]
  congr 1
  ac_rfl
theorem gf_fo_add (a b : Nat) : gf_fo (a ^^^ b) = gf_fo a ^^^ gf_fo b := by
  have e : ∀ w, gf_fo w = ((((w &&& 15541351137805832567355695254588151253139254712417116170014499277911234281641667985407) ^^^ (w >>> 283)) ^^^ ((w >>> 283) <<< 5)) ^^^ ((w >>> 283) <<< 7)) ^^^ ((w >>> 283) <<< 12) := fun _ => rfl
  rw [e, e, e, Nat.and_xor_distrib_right, Nat.shiftRight_xor_distrib, Nat.shiftLeft_xor_distrib, Nat.shiftLeft_xor_distrib, Nat.shiftLeft_xor_distrib]
  ac_rfl
theorem gf_q_eq (a : Nat) : gf_q a = (gf_fo (gf_fo (gf_st 1 59923104495410530257643506359634157787265899298076885757810027052577558601833654377569492440802512007040037959957131119219596589604805540830949143546491374792589297808288495092100739867082031373151027650695001922946050227447487627157971036846942412387783503561528766079982415312826572101611785443208074712405 (gf_st 2 35953862697246318154586103815780494672359539578846131454686016231546535161100192626541695464481507204224022775974278671531757953762883324498569486127894824875553578684973097055260443920249218823890616590417001153767630136468492576294782622108165447432670102136917259647989449187695943260967071265924844827443 (gf_st 4 10574665499190093574878265828170733727164570464366509251378240068101922106205939007806381018965149177712947875286552550450517045224377448381932201802322007316339287848521499133900130564779182007026651938357941515814008863667203698910230182972989837480197088863799194014114543878734100959107962137036719066895 (gf_st 8 699491492164325255925799685131916238761858746670158199507510043415302240488330595847114697752558505918755306925569623959761827894219519931878783776807292312753960674804924067222965835024303868169078143782431929061627045456585458682777872025450689638767900819784382483423919244896808234649164810621105930495 (gf_st 16 2743020179230535281946541939345750848555742525508196244463891865018732560317087494586393599377565894397365059124943060525486210366883083181910179450378780297812958991483673120165741788626975511839923752263378027203536180819116878732226270817108308850929253867045887029310881577406346282326553799069597695 (gf_st 32 41855804958468253215416862131907979778454107725009450118155365586182407620204276291770907358880301160328046586258184810029483623519757063820280685745923183539846145986816692000600865017772938381340388341514537443249396336985068988168808660090905282896115730467361995897392102061092763730264872452095 (gf_st 64 9745314011399999079825087856739523064552525976596965881551925397018201298194122315297074087275581256833590487601395744005744951780045343217449061696331431509203394542567385587901876228620663761300800549174547043425925390537456083938846363324592488964804017437595582105683670264434074320895 (gf_st 128 528294531135665246352339784916516606517294807943820813192811729538211400001472535897918181471736777028254044331895631613250787768007518677792952317086889741124906620767309129894662251090542585738100845990744019557890744873615362666431441255911497635040213580733791338495 (gf_st 256 1552518092300708935148979488462502555256886017116696611139052038026050952686363478522948466231546903925489524851003593840350987650737090830000565511011107708019742339038878425693560262461319812044393910951468561638530421117939613695 (a)))))))))))) % 2 ^ 283 := by
  have e : (2 : Nat) ^ 283 = 15541351137805832567355695254588151253139254712417116170014499277911234281641667985408 := by decide +kernel
  rw [e]
  simp only [gf_q, gf_frc_eq]
  rfl
theorem gf_q_add (a b : Nat) : gf_q (a ^^^ b) = gf_q a ^^^ gf_q b := by
  simp only [gf_q_eq, gf_st_add, gf_fo_add, Nat.xor_mod_two_pow]
theorem gf_q_lt (a : Nat) : gf_q a < 2 ^ 283 := by
  rw [gf_q_eq]
  exact Nat.mod_lt _ (Nat.two_pow_pos 283)
noncomputable def gf_psi (a : gf_V) : gf_V := BitVec.ofNat 283 (gf_q a.toNat)
theorem gf_psi_add (a b : gf_V) : gf_psi (a ^^^ b) = gf_psi a ^^^ gf_psi b := by
  unfold gf_psi
  rw [BitVec.toNat_xor, gf_q_add, BitVec.ofNat_xor]
set_option maxRecDepth 100000 in
theorem gf_psi_1 : gf_psi 1#283 = 1#283 := by decide +kernel
set_option maxRecDepth 100000 in
theorem gf_psi_k : ∀ i, i < 283 → gf_psi (gf_x (1#283 <<< i)) = gf_x (gf_x (gf_psi (1#283 <<< i))) := by decide +kernel
theorem gf_psi_0 : gf_psi 0#283 = 0#283 := by
  have h := gf_psi_add 0#283 0#283
  rw [BitVec.xor_self, BitVec.xor_self] at h
  exact h
theorem gf_1sh (i : Nat) (hi : i < 283) : gf_xn i 1#283 = 1#283 <<< i := gf_sh i 1#283 (fun k hk => by rw [BitVec.getLsbD_one]; simp; omega)
theorem gf_psi_x (a : gf_V) : gf_psi (gf_x a) = gf_x (gf_x (gf_psi a)) :=
  gf_ind2 (fun a => gf_psi (gf_x a) = gf_x (gf_x (gf_psi a))) (by rw [gf_x_0, gf_psi_0, gf_x_0, gf_x_0]) (fun a b ha hb => by rw [gf_x_add, gf_psi_add, gf_psi_add, gf_x_add, gf_x_add, ha, hb]) (fun i hi => by rw [gf_1sh i hi]; exact gf_psi_k i hi) a
theorem gf_sq_psi (a : gf_V) : gf_sq a = gf_psi a :=
  gf_ind (fun a => gf_sq a = gf_psi a) (by rw [gf_sq_1, gf_psi_1]) (fun a b ha hb => by rw [gf_sq_add, gf_psi_add, ha, hb]) (fun a ha => by rw [gf_sq_x, gf_psi_x, ha]) a
theorem gf_sq_q (a : gf_V) : (gf_sq a).toNat = gf_q a.toNat := by
  rw [gf_sq_psi]
  unfold gf_psi
  rw [BitVec.toNat_ofNat, Nat.mod_eq_of_lt (gf_q_lt _)]
-- squares in a row, and their sum
noncomputable def gf_nq (n : Nat) : Nat → Nat := Nat.rec (motive := fun _ => Nat → Nat) (fun a => a) (fun _ f a => gf_frc (gf_q a) f) n
noncomputable def gf_tl (n : Nat) : Nat → Nat → Nat := Nat.rec (motive := fun _ => Nat → Nat → Nat) (fun _ c => c) (fun _ f a c => gf_frc (gf_q a) fun b => gf_frc (Nat.xor c b) fun d => f b d) n
theorem gf_nq_s (n a : Nat) : gf_nq (n + 1) a = gf_nq n (gf_q a) := by
  show gf_frc (gf_q a) (gf_nq n) = _
  rw [gf_frc_eq]
theorem gf_tl_s (n a c : Nat) : gf_tl (n + 1) a c = gf_tl n (gf_q a) (c ^^^ gf_q a) := by
  show (gf_frc (gf_q a) fun b => gf_frc (Nat.xor c b) fun d => gf_tl n b d) = _
  rw [gf_frc_eq, gf_frc_eq]
  rfl
theorem gf_nq_eq (n : Nat) : ∀ a : gf_V, gf_nq n a.toNat = (gf_sqn n a).toNat := by
  induction n with
  | zero => intro a; rfl
  | succ n ih =>
    intro a
    rw [gf_nq_s, ← gf_sq_q, ih, gf_sqn_sq]
    rfl
theorem gf_S_left (n : Nat) (g : Nat → gf_V) : gf_S (n + 1) g = g 0 ^^^ gf_S n (fun j => g (j + 1)) := by
  induction n with
  | zero =>
    show 0#283 ^^^ g 0 = g 0 ^^^ 0#283
    rw [BitVec.xor_comm]
  | succ n ih =>
    show gf_S (n + 1) g ^^^ g (n + 1) = g 0 ^^^ (gf_S n (fun j => g (j + 1)) ^^^ g (n + 1))
    rw [ih, BitVec.xor_assoc]
theorem gf_tl_eq (n : Nat) : ∀ a c : gf_V, gf_tl n a.toNat c.toNat = (c ^^^ gf_S n (fun j => gf_sqn (j + 1) a)).toNat := by
  induction n with
  | zero =>
    intro a c
    show c.toNat = (c ^^^ 0#283).toNat
    rw [BitVec.xor_zero]
  | succ n ih =>
    intro a c
    have e : gf_S n (fun j => gf_sqn (j + 1) (gf_sq a)) = gf_S n (fun j => gf_sqn (j + 1 + 1) a) := gf_S_congr (fun j _ => gf_sqn_sq (j + 1) a)
    have e2 : gf_sqn (0 + 1) a = gf_sq a := rfl
    rw [gf_tl_s, ← gf_sq_q, ← BitVec.toNat_xor, ih, gf_S_left, e, e2, BitVec.xor_assoc]
set_option maxRecDepth 100000 in
theorem gf_k1 : gf_nq 283 2 = 2 := by decide +kernel
theorem gf_frob_x : gf_sqn 283 (gf_x 1#283) = gf_x 1#283 := by
  apply BitVec.eq_of_toNat_eq
  rw [← gf_nq_eq]
  have e : (gf_x 1#283).toNat = 2 := by decide +kernel
  rw [e]
  exact gf_k1
/-- 283 squares: every element comes back -/
theorem gf_frob (a : gf_V) : gf_sqn 283 a = a :=
  gf_ind (fun a => gf_sqn 283 a = a) (gf_sqn_1 283) (fun a b ha hb => by rw [gf_sqn_add, ha, hb]) (fun a ha => by rw [← gf_x_mul, gf_sqn_mul, ha, gf_frob_x]) a
end
section
/-! THE TRACE: computed for the powers of x by the kernel -/
set_option maxRecDepth 100000 in
theorem gf_k2 : ∀ i, i < 283 → gf_tl 282 (Nat.shiftLeft 1 i) (Nat.shiftLeft 1 i) = bif (i == 0 || i == 271) then 1 else 0 := by decide +kernel
end
section
/-! THE TRACE of every element -/
theorem gf_S_zero (n : Nat) : gf_S n (fun _ => 0#283) = 0#283 := by
  induction n with
  | zero => rfl
  | succ n ih =>
    show gf_S n (fun _ => 0#283) ^^^ 0#283 = 0#283
    rw [ih, BitVec.xor_zero]
theorem gf_bool4 (a b c d : Bool) : ((a ^^ b) ^^ (c ^^ d)) = ((a ^^ c) ^^ (b ^^ d)) := by cases a <;> cases b <;> cases c <;> cases d <;> rfl
/-- the sum of the conjugates: 1 or 0, by the bits 0 and 271 -/
theorem gf_trace (a : gf_V) : a ^^^ gf_S 282 (fun j => gf_sqn (j + 1) a) = gf_b (a.getLsbD 0 ^^ a.getLsbD 271) 1#283 := by
  refine gf_ind2 (fun a => a ^^^ gf_S 282 (fun j => gf_sqn (j + 1) a) = gf_b (a.getLsbD 0 ^^ a.getLsbD 271) 1#283) ?_ ?_ ?_ a
  · have e : gf_b ((0#283).getLsbD 0 ^^ (0#283).getLsbD 271) 1#283 = 0#283 := by
      rw [BitVec.getLsbD_zero, BitVec.getLsbD_zero]
      rfl
    rw [e, BitVec.zero_xor, gf_S_congr (h := fun _ => 0#283) (fun i _ => gf_sqn_0 (i + 1)), gf_S_zero]
  · intro a b ha hb
    rw [BitVec.getLsbD_xor, BitVec.getLsbD_xor, gf_bool4, gf_bx, ← ha, ← hb, gf_S_congr (g := fun j => gf_sqn (j + 1) (a ^^^ b)) (fun i _ => gf_sqn_add (i + 1) a b), gf_S_add, gf_4]
  · intro i hi
    apply BitVec.eq_of_toNat_eq
    rw [← gf_tl_eq, gf_one i 0 hi, gf_one i 271 hi]
    have e : (gf_xn i 1#283).toNat = Nat.shiftLeft 1 i := by
      rw [gf_1sh i hi, BitVec.toNat_shiftLeft]
      show (1 % 2 ^ 283) <<< i % 2 ^ 283 = 1 <<< i
      rw [Nat.mod_eq_of_lt (show 1 < 2 ^ 283 by decide +kernel), Nat.mod_eq_of_lt]
      rw [Nat.one_shiftLeft]
      exact Nat.pow_lt_pow_right (by decide) hi
    rw [e, gf_k2 i hi]
    by_cases e0 : i = 0
    · subst e0; decide +kernel
    · by_cases e1 : i = 271
      · subst e1; decide +kernel
      · have h0 : ¬ 0 = i := fun h => e0 h.symm
        have h1 : ¬ 271 = i := fun h => e1 h.symm
        have b0 : (i == 0) = false := beq_eq_false_iff_ne.mpr e0
        have b1 : (i == 271) = false := beq_eq_false_iff_ne.mpr e1
        simp [b0, b1, h0, h1, gf_b]
end
section
/-! WORDS: longs as BitVec 64; rows of longs as elements -/
def wd_sl (x : Int64) (n : Nat) : Int64 := Int64.ofBitVec (x.toBitVec <<< n)
def wd_sr (x : Int64) (n : Nat) : Int64 := Int64.ofBitVec (x.toBitVec >>> n)
def wd_g (x : Int64) (j : Nat) : Bool := x.toBitVec.getLsbD j
theorem wd_ext {x y : Int64} (h : ∀ j, j < 64 → wd_g x j = wd_g y j) : x = y := Int64.toBitVec_inj.mp (BitVec.eq_of_getLsbD_eq h)
theorem wd_big {x : Int64} {j : Nat} (h : 64 ≤ j) : wd_g x j = false := BitVec.getLsbD_of_ge _ _ h
theorem wd_xor (x y : Int64) (j : Nat) : wd_g (x ^^^ y) j = (wd_g x j ^^ wd_g y j) := by
  show (x ^^^ y).toBitVec.getLsbD j = _
  rw [Int64.toBitVec_xor, BitVec.getLsbD_xor]; rfl
theorem wd_and (x y : Int64) (j : Nat) : wd_g (x &&& y) j = (wd_g x j && wd_g y j) := by
  show (x &&& y).toBitVec.getLsbD j = _
  rw [Int64.toBitVec_and, BitVec.getLsbD_and]; rfl
theorem wd_or (x y : Int64) (j : Nat) : wd_g (x ||| y) j = (wd_g x j || wd_g y j) := by
  show (x ||| y).toBitVec.getLsbD j = _
  rw [Int64.toBitVec_or, BitVec.getLsbD_or]; rfl
theorem wd_slg (x : Int64) (n j : Nat) : wd_g (wd_sl x n) j = (decide (j < 64) && (!decide (j < n) && wd_g x (j - n))) := by
  show (x.toBitVec <<< n).getLsbD j = _
  rw [BitVec.getLsbD_shiftLeft, Bool.and_assoc]; rfl
theorem wd_srg (x : Int64) (n j : Nat) : wd_g (wd_sr x n) j = wd_g x (n + j) := by
  show (x.toBitVec >>> n).getLsbD j = _
  rw [BitVec.getLsbD_ushiftRight]; rfl
theorem wd_0 (j : Nat) : wd_g 0 j = false := by
  show (0#64).getLsbD j = false
  exact BitVec.getLsbD_zero
theorem wd_slx (x y : Int64) (n : Nat) : wd_sl (x ^^^ y) n = wd_sl x n ^^^ wd_sl y n := by
  apply Int64.toBitVec_inj.mp
  rw [Int64.toBitVec_xor]
  show (x ^^^ y).toBitVec <<< n = x.toBitVec <<< n ^^^ y.toBitVec <<< n
  rw [Int64.toBitVec_xor, BitVec.shiftLeft_xor_distrib]
-- a long as an element
def wd_z (x : Int64) : gf_V := x.toBitVec.setWidth 283
theorem wd_zg (x : Int64) (j : Nat) : (wd_z x).getLsbD j = wd_g x j := by
  unfold wd_z
  rw [BitVec.getLsbD_setWidth]
  by_cases h : j < 283
  · simp [h]; rfl
  · rw [wd_big (by omega)]; simp [h]
theorem wd_zx (x y : Int64) : wd_z (x ^^^ y) = wd_z x ^^^ wd_z y := by
  unfold wd_z
  rw [Int64.toBitVec_xor, BitVec.setWidth_xor]
theorem wd_z0 : wd_z 0 = 0#283 := by decide +kernel
/-- no overflow: up to 219 places -/
theorem wd_zsh (x : Int64) (n : Nat) (hn : n ≤ 219) : gf_xn n (wd_z x) = wd_z x <<< n :=
  gf_sh n _ (fun j hj => by rw [wd_zg, wd_big (by omega)])
theorem wd_zshg (x : Int64) (n j : Nat) (hn : n ≤ 219) : (gf_xn n (wd_z x)).getLsbD j = (decide (j < 283) && (!decide (j < n) && wd_g x (j - n))) := by
  rw [wd_zsh x n hn, BitVec.getLsbD_shiftLeft, wd_zg, Bool.and_assoc]
/-- a shift, by its two words -/
theorem wd_split (x : Int64) (n : Nat) (hn : n ≤ 64) : gf_xn n (wd_z x) = wd_z (wd_sl x n) ^^^ gf_xn 64 (wd_z (wd_sr x (64 - n))) := by
  apply BitVec.eq_of_getLsbD_eq
  intro j hj
  rw [BitVec.getLsbD_xor, wd_zshg x n j (by omega), wd_zshg _ 64 j (by omega), wd_zg, wd_slg, wd_srg]
  by_cases h : j < 64
  · simp [h, hj]
  · have h2 : ¬ j < n := by omega
    have h3 : 64 - n + (j - 64) = j - n := by omega
    simp [h, hj, h2, h3]
/-- a shift that stays in the word -/
theorem wd_stay (x : Int64) (n : Nat) (hn : n ≤ 64) (h : ∀ j, 64 ≤ j + n → wd_g x j = false) : gf_xn n (wd_z x) = wd_z (wd_sl x n) := by
  rw [wd_split x n hn]
  have e : wd_z (wd_sr x (64 - n)) = 0#283 := by
    apply BitVec.eq_of_getLsbD_eq
    intro j hj
    rw [wd_zg, wd_srg, h _ (by omega)]
    simp
  rw [e, gf_xn_0, BitVec.xor_zero]
theorem gf_8 (a1 b1 a2 b2 a3 b3 a4 b4 : gf_V) : (a1 ^^^ b1) ^^^ (a2 ^^^ b2) ^^^ (a3 ^^^ b3) ^^^ (a4 ^^^ b4) = (a1 ^^^ a2 ^^^ a3 ^^^ a4) ^^^ (b1 ^^^ b2 ^^^ b3 ^^^ b4) := by ac_rfl
/-- x^283 = x^12 + x^7 + x^5 + 1 -/
theorem gf_283 (v : gf_V) : gf_xn 283 v = v ^^^ gf_xn 5 v ^^^ gf_xn 7 v ^^^ gf_xn 12 v := by
  refine gf_ind (fun v => gf_xn 283 v = v ^^^ gf_xn 5 v ^^^ gf_xn 7 v ^^^ gf_xn 12 v) ?_ ?_ ?_ v
  · have e : gf_xn 283 1#283 = gf_x (gf_xn 282 1#283) := rfl
    rw [e, gf_1sh 282 (by decide), gf_1sh 5 (by decide), gf_1sh 7 (by decide), gf_1sh 12 (by decide)]
    decide +kernel
  · intro a b ha hb
    rw [gf_xn_add, gf_xn_add 5, gf_xn_add 7, gf_xn_add 12, ha, hb]
    exact (gf_8 _ _ _ _ _ _ _ _).symm
  · intro a ha
    rw [gf_xn_x, gf_xn_x, gf_xn_x, gf_xn_x, ha, gf_x_add, gf_x_add, gf_x_add]
-- rows of longs
def wd_of (L : Nat) (F : Nat → Int64) : gf_V := gf_S L (fun k => gf_xn (64 * k) (wd_z (F k)))
theorem wd_of_congr {L : Nat} {F G : Nat → Int64} (h : ∀ k, k < L → F k = G k) : wd_of L F = wd_of L G := gf_S_congr (fun k hk => by rw [h k hk])
theorem wd_of_s (L : Nat) (F : Nat → Int64) : wd_of (L + 1) F = wd_of L F ^^^ gf_xn (64 * L) (wd_z (F L)) := rfl
theorem wd_of_up (L t : Nat) (ht : t < L) (F : Nat → Int64) (d : Int64) : wd_of L (vp_updL F t (F t ^^^ d)) = wd_of L F ^^^ gf_xn (64 * t) (wd_z d) := by
  induction L with
  | zero => omega
  | succ L ih =>
    rw [wd_of_s, wd_of_s]
    by_cases e : t = L
    · subst e
      rw [pk_uLs, wd_zx, gf_xn_add, wd_of_congr (G := F) (fun k hk => pk_uLn (by omega)), BitVec.xor_assoc]
    · rw [ih (by omega), pk_uLn (fun h => e h.symm), BitVec.xor_assoc, BitVec.xor_assoc, BitVec.xor_comm (gf_xn (64 * t) (wd_z d))]
/-- a row of five longs holds an element -/
def rp_ (F : Nat → Int64) (v : gf_V) : Prop := ∀ k, k < 5 → ∀ r, r < 64 → wd_g (F k) r = v.getLsbD (64 * k + r)
theorem rp_congr {F G : Nat → Int64} {v : gf_V} (h : rp_ F v) (e : ∀ k, k < 5 → G k = F k) : rp_ G v := fun k hk r hr => by rw [e k hk]; exact h k hk r hr
theorem rp_inj {F G : Nat → Int64} {v : gf_V} (h : rp_ F v) (h2 : rp_ G v) (k : Nat) (hk : k < 5) : F k = G k := wd_ext (fun j hj => by rw [h k hk j hj, h2 k hk j hj])
theorem rp_xor {F G : Nat → Int64} {u v : gf_V} (h : rp_ F u) (h2 : rp_ G v) : rp_ (fun k => F k ^^^ G k) (u ^^^ v) := fun k hk r hr => by
  show wd_g (F k ^^^ G k) r = _
  rw [wd_xor, BitVec.getLsbD_xor, h k hk r hr, h2 k hk r hr]
theorem rp_top {F : Nat → Int64} {v : gf_V} (h : rp_ F v) (r : Nat) (hr : 27 ≤ r) : wd_g (F 4) r = false := by
  by_cases h64 : r < 64
  · rw [h 4 (by decide) r h64, BitVec.getLsbD_of_ge _ _ (by omega)]
  · exact wd_big (by omega)
theorem wd_part (F : Nat → Int64) (h4 : ∀ r, 27 ≤ r → wd_g (F 4) r = false) (k : Nat) (hk : k < 5) (j : Nat) (hj : j < 283) : (gf_xn (64 * k) (wd_z (F k))).getLsbD j = (decide (j / 64 = k) && wd_g (F k) (j % 64)) := by
  have e : gf_xn (64 * k) (wd_z (F k)) = wd_z (F k) <<< (64 * k) := by
    refine gf_sh _ _ (fun i hi => ?_)
    rw [wd_zg]
    by_cases hk4 : k = 4
    · subst hk4; exact h4 i (by omega)
    · exact wd_big (by omega)
  rw [e, BitVec.getLsbD_shiftLeft, wd_zg]
  by_cases a : j / 64 = k
  · have a1 : ¬ j < 64 * k := by omega
    have a2 : j - 64 * k = j % 64 := by omega
    simp [hj, a, a1, a2]
  · by_cases b : j < 64 * k
    · simp [a, b]
    · have c : wd_g (F k) (j - 64 * k) = false := wd_big (by omega)
      simp [a, c]
theorem rp_self (F : Nat → Int64) (h4 : ∀ r, 27 ≤ r → wd_g (F 4) r = false) : rp_ F (wd_of 5 F) := by
  intro k hk r hr
  by_cases hj : 64 * k + r < 283
  · have e : wd_of 5 F = ((((0#283 ^^^ gf_xn (64 * 0) (wd_z (F 0))) ^^^ gf_xn (64 * 1) (wd_z (F 1))) ^^^ gf_xn (64 * 2) (wd_z (F 2))) ^^^ gf_xn (64 * 3) (wd_z (F 3))) ^^^ gf_xn (64 * 4) (wd_z (F 4)) := rfl
    have d : (64 * k + r) / 64 = k := by omega
    have m : (64 * k + r) % 64 = r := by omega
    rw [e, BitVec.getLsbD_xor, BitVec.getLsbD_xor, BitVec.getLsbD_xor, BitVec.getLsbD_xor, BitVec.getLsbD_xor, wd_part F h4 0 (by decide) _ hj, wd_part F h4 1 (by decide) _ hj, wd_part F h4 2 (by decide) _ hj, wd_part F h4 3 (by decide) _ hj, wd_part F h4 4 (by decide) _ hj, d, m]
    rcases (show k = 0 ∨ k = 1 ∨ k = 2 ∨ k = 3 ∨ k = 4 by omega) with rfl | rfl | rfl | rfl | rfl <;> simp
  · rw [BitVec.getLsbD_of_ge _ _ (by omega)]
    have hk4 : k = 4 := by omega
    subst hk4
    exact h4 r (by omega)
theorem rp_of {F : Nat → Int64} {v : gf_V} (h : rp_ F v) : wd_of 5 F = v := by
  have h2 := rp_self F (rp_top h)
  apply BitVec.eq_of_getLsbD_eq
  intro j hj
  have e : j = 64 * (j / 64) + j % 64 := by omega
  rw [e, ← h2 (j / 64) (by omega) (j % 64) (by omega), ← h (j / 64) (by omega) (j % 64) (by omega)]
theorem rp_is {F : Nat → Int64} {v : gf_V} (h4 : ∀ r, 27 ≤ r → wd_g (F 4) r = false) (e : wd_of 5 F = v) : rp_ F v := e ▸ rp_self F h4
theorem rp_0 : rp_ (fun _ => 0) 0#283 := fun k _ r _ => by rw [wd_0, BitVec.getLsbD_zero]
-- word k of an element
def rp_w (v : gf_V) (k : Nat) : Int64 := Int64.ofBitVec ((v >>> (64 * k)).setWidth 64)
theorem rp_wg (v : gf_V) (k j : Nat) (hj : j < 64) : wd_g (rp_w v k) j = v.getLsbD (64 * k + j) := by
  show ((v >>> (64 * k)).setWidth 64).getLsbD j = _
  rw [BitVec.getLsbD_setWidth, BitVec.getLsbD_ushiftRight]
  simp [hj]
theorem rp_word {F : Nat → Int64} {v : gf_V} (h : rp_ F v) (k : Nat) (hk : k < 5) : F k = rp_w v k := wd_ext (fun j hj => by rw [h k hk j hj, rp_wg v k j hj])
-- the mask of 27 bits
theorem wd_m27 : ∀ j, j < 64 → wd_g 134217727 j = decide (j < 27) := by decide +kernel
theorem wd_mask27 (x : Int64) (r : Nat) (hr : 27 ≤ r) : wd_g (x &&& 134217727) r = false := by
  by_cases h : r < 64
  · rw [wd_and, wd_m27 r h]
    simp; omega
  · exact wd_big (by omega)
-- ===== reduce =====
def rd_st (W : Nat → Int64) (k : Nat) : Nat → Int64 :=
  vp_updL (vp_updL W (k - 5) (W (k - 5) ^^^ (wd_sl (W k) 37 ^^^ wd_sl (W k) 42 ^^^ wd_sl (W k) 44 ^^^ wd_sl (W k) 49))) (k - 4)
    ((vp_updL W (k - 5) (W (k - 5) ^^^ (wd_sl (W k) 37 ^^^ wd_sl (W k) 42 ^^^ wd_sl (W k) 44 ^^^ wd_sl (W k) 49))) (k - 4) ^^^ (wd_sr (W k) 27 ^^^ wd_sr (W k) 22 ^^^ wd_sr (W k) 20 ^^^ wd_sr (W k) 15))
theorem rd_320 (t : Int64) : gf_xn 320 (wd_z t) = wd_z (wd_sl t 37 ^^^ wd_sl t 42 ^^^ wd_sl t 44 ^^^ wd_sl t 49) ^^^ gf_xn 64 (wd_z (wd_sr t 27 ^^^ wd_sr t 22 ^^^ wd_sr t 20 ^^^ wd_sr t 15)) := by
  have e : gf_xn 320 (wd_z t) = gf_xn 37 (gf_xn 283 (wd_z t)) := gf_xn_xn 37 283 _
  rw [e, gf_283, gf_xn_add, gf_xn_add, gf_xn_add, ← gf_xn_xn, ← gf_xn_xn, ← gf_xn_xn, wd_split t 37 (by decide), wd_split t (37 + 5) (by decide), wd_split t (37 + 7) (by decide), wd_split t (37 + 12) (by decide)]
  simp only [wd_zx, gf_xn_add]
  exact gf_8 _ _ _ _ _ _ _ _
theorem rd_step (W : Nat → Int64) (k : Nat) (hk : 5 ≤ k) : wd_of k (rd_st W k) = wd_of (k + 1) W := by
  unfold rd_st
  rw [wd_of_up k (k - 4) (by omega), wd_of_up k (k - 5) (by omega), wd_of_s]
  have e : gf_xn (64 * k) (wd_z (W k)) = gf_xn (64 * (k - 5)) (gf_xn 320 (wd_z (W k))) := by
    rw [← gf_xn_xn]
    congr 1
    omega
  have e2 : 64 * (k - 4) = 64 * (k - 5) + 64 := by omega
  rw [e, rd_320, gf_xn_add, ← gf_xn_xn, e2, BitVec.xor_assoc]
/-- the loop, from 9 down: n rounds -/
def rd_lp (W : Nat → Int64) : Nat → Nat → Int64
  | 0 => W
  | n + 1 => rd_st (rd_lp W n) (9 - n)
theorem rd_lp_of (W : Nat → Int64) (n : Nat) (hn : n ≤ 5) : wd_of (10 - n) (rd_lp W n) = wd_of 10 W := by
  induction n with
  | zero => rfl
  | succ n ih =>
    rw [← ih (by omega)]
    show wd_of (10 - (n + 1)) (rd_st (rd_lp W n) (9 - n)) = _
    have e : 10 - (n + 1) = 9 - n := by omega
    have e2 : 10 - n = 9 - n + 1 := by omega
    rw [e, rd_step _ _ (by omega), e2]
def rd_t1 (W : Nat → Int64) : Nat → Int64 := vp_updL W 0 (W 0 ^^^ (wd_sr (W 4) 27 ^^^ wd_sl (wd_sr (W 4) 27) 5 ^^^ wd_sl (wd_sr (W 4) 27) 7 ^^^ wd_sl (wd_sr (W 4) 27) 12))
def rd_tl (W : Nat → Int64) : Nat → Int64 := vp_updL (rd_t1 W) 4 (rd_t1 W 4 &&& 134217727)
theorem rd_hi (x : Int64) : wd_z x = wd_z (x &&& 134217727) ^^^ gf_xn 27 (wd_z (wd_sr x 27)) := by
  apply BitVec.eq_of_getLsbD_eq
  intro j hj
  rw [BitVec.getLsbD_xor, wd_zg, wd_zg, wd_zshg _ 27 j (by decide), wd_and, wd_srg]
  by_cases h : j < 64
  · rw [wd_m27 j h]
    by_cases h2 : j < 27
    · simp [h2]
    · have e : 27 + (j - 27) = j := by omega
      simp [h2, hj, e]
  · rw [wd_big (x := x) (j := j) (by omega), wd_big (x := x) (j := 27 + (j - 27)) (by omega)]
    simp
theorem rd_tail (W : Nat → Int64) : wd_of 5 (rd_tl W) = wd_of 5 W := by
  have e1 : wd_of 5 (rd_t1 W) = wd_of 5 W ^^^ gf_xn 283 (wd_z (wd_sr (W 4) 27)) := by
    unfold rd_t1
    rw [wd_of_up 5 0 (by decide), gf_283]
    have hb : ∀ n j, n ≤ 12 → 64 ≤ j + n → wd_g (wd_sr (W 4) 27) j = false := fun n j hn hj => by rw [wd_srg, wd_big (by omega)]
    rw [wd_stay _ 5 (by decide) (fun j hj => hb 5 j (by decide) hj), wd_stay _ 7 (by decide) (fun j hj => hb 7 j (by decide) hj), wd_stay _ 12 (by decide) (fun j hj => hb 12 j (by decide) hj)]
    simp only [wd_zx]
    rfl
  have e4 : rd_t1 W 4 = W 4 := pk_uLn (by decide)
  have e5 : rd_tl W 4 = W 4 &&& 134217727 := by
    unfold rd_tl
    rw [pk_uLs, e4]
  have e6 : gf_xn (64 * 4) (wd_z (W 4)) = gf_xn (64 * 4) (wd_z (W 4 &&& 134217727)) ^^^ gf_xn 283 (wd_z (wd_sr (W 4) 27)) := by
    have h := congrArg (gf_xn 256) (rd_hi (W 4))
    rw [gf_xn_add, ← gf_xn_xn] at h
    exact h
  have e2 : wd_of 5 (rd_t1 W) = wd_of 5 (rd_tl W) ^^^ gf_xn 283 (wd_z (wd_sr (W 4) 27)) := by
    rw [wd_of_s 4 (rd_t1 W), wd_of_s 4 (rd_tl W), wd_of_congr (L := 4) (F := rd_tl W) (G := rd_t1 W) (fun k hk => pk_uLn (by omega)), e5, e4, e6, BitVec.xor_assoc]
  rw [e1] at e2
  exact ((BitVec.xor_left_inj _).mp e2).symm
/-- reduce: the words 0 to 4 hold the element of the ten words -/
theorem rd_rp (W : Nat → Int64) : rp_ (rd_tl (rd_lp W 5)) (wd_of 10 W) := by
  refine rp_is (fun r hr => ?_) ?_
  · unfold rd_tl
    rw [pk_uLs]
    exact wd_mask27 _ r hr
  · rw [rd_tail]
    exact rd_lp_of W 5 (by decide)
end
section
/-! BITS MOVED ABOUT: a picture says which bit of x each bit of v is (64: none) -/
def bp_ (v x : Int64) (q : Nat → Nat) : Prop := ∀ j, j < 64 → wd_g v j = wd_g x (q j)
theorem bp_id (x : Int64) : bp_ x x (fun j => j) := fun _ _ => rfl
theorem bp_64 (x : Int64) : wd_g x 64 = false := wd_big (Nat.le_refl _)
theorem bp_and {v x : Int64} {q : Nat → Nat} (h : bp_ v x q) (M : Int64) : bp_ (v &&& M) x (fun j => bif wd_g M j then q j else 64) := fun j hj => by
  rw [wd_and, h j hj]
  cases hM : wd_g M j
  · simp [hM, bp_64]
  · simp [hM]
theorem bp_sl {v x : Int64} {q : Nat → Nat} (h : bp_ v x q) (n : Nat) : bp_ (wd_sl v n) x (fun j => bif Nat.ble n j then q (j - n) else 64) := fun j hj => by
  rw [wd_slg]
  by_cases e : n ≤ j
  · have e2 : ¬ j < n := by omega
    have e3 : Nat.ble n j = true := Nat.ble_eq.mpr e
    simp [hj, e2, e3, h (j - n) (by omega)]
  · have e2 : j < n := by omega
    have e3 : Nat.ble n j = false := by
      cases hb : Nat.ble n j
      · rfl
      · exact absurd (Nat.ble_eq.mp hb) e
    simp [e2, e3, bp_64]
theorem bp_sr {v x : Int64} {q : Nat → Nat} (h : bp_ v x q) (n : Nat) : bp_ (wd_sr v n) x (fun j => bif Nat.blt (n + j) 64 then q (n + j) else 64) := fun j hj => by
  rw [wd_srg]
  by_cases e : n + j < 64
  · have e3 : Nat.blt (n + j) 64 = true := Nat.ble_eq.mpr e
    simp [e3, h (n + j) e]
  · have e3 : Nat.blt (n + j) 64 = false := by
      cases hb : Nat.blt (n + j) 64
      · rfl
      · exact absurd (Nat.ble_eq.mp hb) e
    rw [wd_big (by omega)]
    simp [e3, bp_64]
theorem bp_or {u v x : Int64} {q r : Nat → Nat} (h : bp_ u x q) (h2 : bp_ v x r) (d : ∀ j, j < 64 → 64 ≤ q j ∨ 64 ≤ r j) : bp_ (u ||| v) x (fun j => bif Nat.blt (q j) 64 then q j else r j) := fun j hj => by
  rw [wd_or, h j hj, h2 j hj]
  by_cases e : q j < 64
  · have e3 : Nat.blt (q j) 64 = true := Nat.ble_eq.mpr e
    rcases d j hj with f | f
    · omega
    · rw [wd_big f]
      simp [e3]
  · have e3 : Nat.blt (q j) 64 = false := by
      cases hb : Nat.blt (q j) 64
      · rfl
      · exact absurd (Nat.ble_eq.mp hb) e
    rw [wd_big (j := q j) (by omega)]
    simp [e3]
theorem bp_as {v x : Int64} {q r : Nat → Nat} (h : bp_ v x q) (e : ∀ j, j < 64 → q j = r j) : bp_ v x r := fun j hj => by rw [h j hj, e j hj]
theorem bp_orm {u v x : Int64} {q r : Nat → Nat} (h : bp_ u x q) (h2 : bp_ v x r) (M : Int64) (d : ∀ j, j < 64 → wd_g M j = true → 64 ≤ q j ∨ 64 ≤ r j) : bp_ ((u ||| v) &&& M) x (fun j => bif wd_g M j then (bif Nat.blt (q j) 64 then q j else r j) else 64) := fun j hj => by
  rw [wd_and, wd_or, h j hj, h2 j hj]
  cases hM : wd_g M j
  · simp [hM, bp_64]
  · by_cases e : q j < 64
    · have e3 : Nat.blt (q j) 64 = true := Nat.ble_eq.mpr e
      rcases d j hj hM with f | f
      · omega
      · rw [wd_big f]
        simp [hM, e3]
    · have e3 : Nat.blt (q j) 64 = false := by
        cases hb : Nat.blt (q j) 64
        · rfl
        · exact absurd (Nat.ble_eq.mp hb) e
      rw [wd_big (j := q j) (by omega)]
      simp [hM, e3]
-- ===== spread =====
def sp_s (v : Int64) (n : Nat) (M : Int64) : Int64 := (v ||| wd_sl v n) &&& M
def sp_f (x : Int64) : Int64 := sp_s (sp_s (sp_s (sp_s (sp_s (x &&& 4294967295) 16 281470681808895) 8 71777214294589695) 4 1085102592571150095) 2 3689348814741910323) 1 6148914691236517205
theorem sp_1 {v x : Int64} {q : Nat → Nat} (h : bp_ v x q) (n : Nat) (M : Int64) (r : Nat → Nat) (d : ∀ j, j < 64 → wd_g M j = true → 64 ≤ q j ∨ 64 ≤ (bif Nat.ble n j then q (j - n) else 64)) (e : ∀ j, j < 64 → (bif wd_g M j then (bif Nat.blt (q j) 64 then q j else (bif Nat.ble n j then q (j - n) else 64)) else 64) = r j) : bp_ (sp_s v n M) x r :=
  bp_as (bp_orm h (bp_sl h n) M d) e
theorem sp_bits (x : Int64) : bp_ (sp_f x) x (fun j => bif j % 2 == 0 then j / 2 else 64) := by
  have h0 : bp_ (x &&& 4294967295) x (fun j => bif Nat.blt j 32 then j else 64) := bp_as (bp_and (bp_id x) _) (by decide +kernel)
  have h1 := sp_1 h0 16 281470681808895 (fun j => bif Nat.blt (j % 32) 16 then j / 32 * 16 + j % 16 else 64) (by decide +kernel) (by decide +kernel)
  have h2 := sp_1 h1 8 71777214294589695 (fun j => bif Nat.blt (j % 16) 8 then j / 16 * 8 + j % 8 else 64) (by decide +kernel) (by decide +kernel)
  have h3 := sp_1 h2 4 1085102592571150095 (fun j => bif Nat.blt (j % 8) 4 then j / 8 * 4 + j % 4 else 64) (by decide +kernel) (by decide +kernel)
  have h4 := sp_1 h3 2 3689348814741910323 (fun j => bif Nat.blt (j % 4) 2 then j / 4 * 2 + j % 2 else 64) (by decide +kernel) (by decide +kernel)
  exact sp_1 h4 1 6148914691236517205 _ (by decide +kernel) (by decide +kernel)
-- ===== gathered =====
def ga_s (v : Int64) (n : Nat) (M : Int64) : Int64 := (v ||| wd_sr v n) &&& M
def ga_f (x : Int64) : Int64 := ga_s (ga_s (ga_s (ga_s (ga_s (x &&& 6148914691236517205) 1 3689348814741910323) 2 1085102592571150095) 4 71777214294589695) 8 281470681808895) 16 4294967295
theorem ga_1 {v x : Int64} {q : Nat → Nat} (h : bp_ v x q) (n : Nat) (M : Int64) (r : Nat → Nat) (d : ∀ j, j < 64 → 64 ≤ q j ∨ 64 ≤ (bif Nat.blt (n + j) 64 then q (n + j) else 64)) (e : ∀ j, j < 64 → (bif wd_g M j then (bif Nat.blt (q j) 64 then q j else (bif Nat.blt (n + j) 64 then q (n + j) else 64)) else 64) = r j) : bp_ (ga_s v n M) x r :=
  bp_as (bp_and (bp_or h (bp_sr h n) d) M) e
theorem ga_bits (x : Int64) : bp_ (ga_f x) x (fun j => bif Nat.blt j 32 then 2 * j else 64) := by
  have h0 : bp_ (x &&& 6148914691236517205) x (fun j => bif Nat.blt (j % 2) 1 then j else 64) := bp_as (bp_and (bp_id x) _) (by decide +kernel)
  have h1 := ga_1 h0 1 3689348814741910323 (fun j => bif Nat.blt (j % 4) 2 then j / 4 * 4 + j % 2 * 2 else 64) (by decide +kernel) (by decide +kernel)
  have h2 := ga_1 h1 2 1085102592571150095 (fun j => bif Nat.blt (j % 8) 4 then j / 8 * 8 + j % 4 * 2 else 64) (by decide +kernel) (by decide +kernel)
  have h3 := ga_1 h2 4 71777214294589695 (fun j => bif Nat.blt (j % 16) 8 then j / 16 * 16 + j % 8 * 2 else 64) (by decide +kernel) (by decide +kernel)
  have h4 := ga_1 h3 8 281470681808895 (fun j => bif Nat.blt (j % 32) 16 then j / 32 * 32 + j % 16 * 2 else 64) (by decide +kernel) (by decide +kernel)
  exact ga_1 h4 16 4294967295 _ (by decide +kernel) (by decide +kernel)
-- ===== turned =====
/-- mask and value, n rounds on -/
def tu_m : Nat → Int64
  | 0 => -1
  | n + 1 => tu_m n ^^^ wd_sl (tu_m n) (32 / 2 ^ n)
def tu_v (x : Int64) : Nat → Int64
  | 0 => x
  | n + 1 => (wd_sr (tu_v x n) (32 / 2 ^ n) &&& tu_m (n + 1)) ||| (wd_sl (tu_v x n) (32 / 2 ^ n) &&& (tu_m (n + 1) ^^^ (-1)))
def tu_f (x : Int64) : Int64 := tu_v x 6
theorem tu_1 {v x : Int64} {q : Nat → Nat} (h : bp_ v x q) (n : Nat) (M : Int64) (r : Nat → Nat) (d : ∀ j, j < 64 → 64 ≤ (bif wd_g M j then (bif Nat.blt (n + j) 64 then q (n + j) else 64) else 64) ∨ 64 ≤ (bif wd_g (M ^^^ (-1)) j then (bif Nat.ble n j then q (j - n) else 64) else 64))
    (e : ∀ j, j < 64 → (bif Nat.blt (bif wd_g M j then (bif Nat.blt (n + j) 64 then q (n + j) else 64) else 64) 64 then (bif wd_g M j then (bif Nat.blt (n + j) 64 then q (n + j) else 64) else 64) else (bif wd_g (M ^^^ (-1)) j then (bif Nat.ble n j then q (j - n) else 64) else 64)) = r j) : bp_ ((wd_sr v n &&& M) ||| (wd_sl v n &&& (M ^^^ (-1)))) x r :=
  bp_as (bp_or (bp_and (bp_sr h n) M) (bp_and (bp_sl h n) (M ^^^ (-1))) d) e
theorem tu_bits (x : Int64) : bp_ (tu_f x) x (fun j => 63 - j) := by
  have h1 : bp_ (tu_v x 1) x (fun j => Nat.xor j 32) := tu_1 (bp_id x) (32 / 2 ^ 0) (tu_m 1) _ (by decide +kernel) (by decide +kernel)
  have h2 : bp_ (tu_v x 2) x (fun j => Nat.xor j 48) := tu_1 h1 (32 / 2 ^ 1) (tu_m 2) _ (by decide +kernel) (by decide +kernel)
  have h3 : bp_ (tu_v x 3) x (fun j => Nat.xor j 56) := tu_1 h2 (32 / 2 ^ 2) (tu_m 3) _ (by decide +kernel) (by decide +kernel)
  have h4 : bp_ (tu_v x 4) x (fun j => Nat.xor j 60) := tu_1 h3 (32 / 2 ^ 3) (tu_m 4) _ (by decide +kernel) (by decide +kernel)
  have h5 : bp_ (tu_v x 5) x (fun j => Nat.xor j 62) := tu_1 h4 (32 / 2 ^ 4) (tu_m 5) _ (by decide +kernel) (by decide +kernel)
  have h6 : bp_ (tu_v x 6) x (fun j => Nat.xor j 63) := tu_1 h5 (32 / 2 ^ 5) (tu_m 6) _ (by decide +kernel) (by decide +kernel)
  exact bp_as h6 (by decide +kernel)
theorem tu_g (x : Int64) (j : Nat) (hj : j < 64) : wd_g (tu_f x) j = wd_g x (63 - j) := tu_bits x j hj
end
section
/-! low: a product without carries out of products with carries of numbers whose bits have gaps -/
def xs_ : Nat → (Nat → Bool) → Bool
  | 0, _ => false
  | n + 1, f => xs_ n f ^^ f n
theorem xs_congr {n : Nat} {f g : Nat → Bool} (e : ∀ i, i < n → f i = g i) : xs_ n f = xs_ n g := by
  induction n with
  | zero => rfl
  | succ n ih =>
    show (xs_ n f ^^ f n) = (xs_ n g ^^ g n)
    rw [ih (fun i hi => e i (Nat.lt_succ_of_lt hi)), e n (Nat.lt_succ_self n)]
theorem xs_add (n : Nat) (f g : Nat → Bool) : xs_ n (fun i => f i ^^ g i) = (xs_ n f ^^ xs_ n g) := by
  induction n with
  | zero => rfl
  | succ n ih =>
    show (xs_ n (fun i => f i ^^ g i) ^^ (f n ^^ g n)) = ((xs_ n f ^^ f n) ^^ (xs_ n g ^^ g n))
    rw [ih]
    cases xs_ n f <;> cases xs_ n g <;> cases f n <;> cases g n <;> rfl
theorem xs_false (n : Nat) {f : Nat → Bool} (e : ∀ i, i < n → f i = false) : xs_ n f = false := by
  induction n with
  | zero => rfl
  | succ n ih =>
    show (xs_ n f ^^ f n) = false
    rw [ih (fun i hi => e i (Nat.lt_succ_of_lt hi)), e n (Nat.lt_succ_self n)]
    rfl
theorem xs_left (n : Nat) (f : Nat → Bool) : xs_ (n + 1) f = (f 0 ^^ xs_ n (fun i => f (i + 1))) := by
  induction n with
  | zero =>
    show (false ^^ f 0) = (f 0 ^^ false)
    cases f 0 <;> rfl
  | succ n ih =>
    show (xs_ (n + 1) f ^^ f (n + 1)) = (f 0 ^^ (xs_ n (fun i => f (i + 1)) ^^ f (n + 1)))
    rw [ih, Bool.xor_assoc]
theorem xs_rev (n : Nat) : ∀ f : Nat → Bool, xs_ n f = xs_ n (fun i => f (n - 1 - i)) := by
  induction n with
  | zero => intro f; rfl
  | succ n ih =>
    intro f
    rw [xs_left, ih (fun i => f (i + 1))]
    show _ = (xs_ n (fun i => f (n + 1 - 1 - i)) ^^ f (n + 1 - 1 - n))
    have e0 : n + 1 - 1 - n = 0 := by omega
    rw [e0, Bool.xor_comm]
    congr 1
    exact xs_congr (fun i hi => by
      show f (n - 1 - i + 1) = f (n + 1 - 1 - i)
      congr 1
      omega)
theorem xs_one (n k : Nat) (f : Nat → Bool) : xs_ n (fun i => decide (i = k) && f i) = (decide (k < n) && f k) := by
  induction n with
  | zero => rfl
  | succ n ih =>
    show (xs_ n (fun i => decide (i = k) && f i) ^^ (decide (n = k) && f n)) = _
    rw [ih]
    by_cases e : n = k
    · subst e; simp
    · by_cases e2 : k < n
      · have e3 : k < n + 1 := by omega
        simp [e, e2, e3]
      · have e3 : ¬ k < n + 1 := by omega
        simp [e, e2, e3]
theorem xs_4 (n : Nat) (f : Nat → Bool) : xs_ (4 * n) f = xs_ n (fun v => (((f (4 * v) ^^ f (4 * v + 1)) ^^ f (4 * v + 2)) ^^ f (4 * v + 3))) := by
  induction n with
  | zero => rfl
  | succ n ih =>
    show ((((xs_ (4 * n) f ^^ f (4 * n)) ^^ f (4 * n + 1)) ^^ f (4 * n + 2)) ^^ f (4 * n + 3)) = (xs_ n (fun v => (((f (4 * v) ^^ f (4 * v + 1)) ^^ f (4 * v + 2)) ^^ f (4 * v + 3))) ^^ (((f (4 * n) ^^ f (4 * n + 1)) ^^ f (4 * n + 2)) ^^ f (4 * n + 3)))
    rw [ih]
    simp only [Bool.xor_assoc]
theorem xs_pick (n l : Nat) (hl : l < 4) (f : Nat → Bool) (h : ∀ j, ¬ j % 4 = l → f j = false) : xs_ (4 * n) f = xs_ n (fun v => f (4 * v + l)) := by
  rw [xs_4]
  refine xs_congr (fun v _ => ?_)
  rcases (show l = 0 ∨ l = 1 ∨ l = 2 ∨ l = 3 by omega) with rfl | rfl | rfl | rfl
  · rw [h (4 * v + 1) (by omega), h (4 * v + 2) (by omega), h (4 * v + 3) (by omega)]; simp
  · rw [h (4 * v) (by omega), h (4 * v + 2) (by omega), h (4 * v + 3) (by omega)]; simp
  · rw [h (4 * v) (by omega), h (4 * v + 1) (by omega), h (4 * v + 3) (by omega)]; simp
  · rw [h (4 * v) (by omega), h (4 * v + 1) (by omega), h (4 * v + 2) (by omega)]; simp
theorem gf_S_get (n : Nat) (g : Nat → gf_V) (j : Nat) : (gf_S n g).getLsbD j = xs_ n (fun i => (g i).getLsbD j) := by
  induction n with
  | zero => exact BitVec.getLsbD_zero
  | succ n ih =>
    show (gf_S n g ^^^ g n).getLsbD j = _
    rw [BitVec.getLsbD_xor, ih]
    rfl
-- numbers by digits of base 16
def dg_ : Nat → (Nat → Nat) → Nat
  | 0, _ => 0
  | n + 1, f => dg_ n f + f n * 16 ^ n
theorem dg_lt (w : Nat) (f : Nat → Nat) (h : ∀ i, i < w → f i ≤ 15) : dg_ w f < 16 ^ w := by
  induction w with
  | zero => exact Nat.one_pos
  | succ w ih =>
    show dg_ w f + f w * 16 ^ w < 16 ^ (w + 1)
    have h1 := ih (fun i hi => h i (Nat.lt_succ_of_lt hi))
    have h2 : f w * 16 ^ w ≤ 15 * 16 ^ w := Nat.mul_le_mul_right _ (h w (Nat.lt_succ_self w))
    rw [Nat.pow_succ]
    omega
theorem dg_par (f : Nat → Nat) (w : Nat) (h : ∀ i, i < w → f i ≤ 15) (d : Nat) : dg_ (w + 1 + d) f / 16 ^ w % 2 = f w % 2 := by
  have hp : 0 < 16 ^ w := Nat.pow_pos (by decide)
  induction d with
  | zero =>
    show (dg_ w f + f w * 16 ^ w) / 16 ^ w % 2 = f w % 2
    rw [Nat.add_mul_div_right _ _ hp, Nat.div_eq_of_lt (dg_lt w f h), Nat.zero_add]
  | succ d ih =>
    show (dg_ (w + 1 + d) f + f (w + 1 + d) * 16 ^ (w + 1 + d)) / 16 ^ w % 2 = f w % 2
    have e : f (w + 1 + d) * 16 ^ (w + 1 + d) = (2 * (f (w + 1 + d) * (8 * 16 ^ d))) * 16 ^ w := by
      have e1 : (16 : Nat) ^ (w + 1 + d) = 16 ^ w * 16 * 16 ^ d := by rw [Nat.pow_add, Nat.pow_succ]
      rw [e1, show (16 : Nat) ^ w * 16 * 16 ^ d = 2 * (8 * 16 ^ d) * 16 ^ w by
        rw [Nat.mul_assoc (16 ^ w), Nat.mul_comm (16 ^ w), ← Nat.mul_assoc 2 8]]
      rw [← Nat.mul_assoc, Nat.mul_left_comm]
    rw [e, Nat.add_mul_div_right _ _ hp, Nat.add_mul_mod_self_left]
    exact ih
theorem dg_add (n : Nat) (f g : Nat → Nat) : dg_ n (fun w => f w + g w) = dg_ n f + dg_ n g := by
  induction n with
  | zero => rfl
  | succ n ih =>
    show dg_ n (fun w => f w + g w) + (f n + g n) * 16 ^ n = (dg_ n f + f n * 16 ^ n) + (dg_ n g + g n * 16 ^ n)
    rw [ih, Nat.add_mul]
    omega
theorem dg_zero (n : Nat) {f : Nat → Nat} (h : ∀ i, i < n → f i = 0) : dg_ n f = 0 := by
  induction n with
  | zero => rfl
  | succ n ih =>
    show dg_ n f + f n * 16 ^ n = 0
    rw [ih (fun i hi => h i (Nat.lt_succ_of_lt hi)), h n (Nat.lt_succ_self n), Nat.zero_mul]
theorem dg_shift (m c : Nat) (x : Nat → Nat) (n : Nat) : dg_ (m + n) (fun w => if m ≤ w then c * x (w - m) else 0) = c * 16 ^ m * dg_ n x := by
  induction n with
  | zero =>
    rw [Nat.add_zero, dg_zero m (fun i hi => if_neg (by omega))]
    rfl
  | succ n ih =>
    show dg_ (m + n) (fun w => if m ≤ w then c * x (w - m) else 0) + (if m ≤ m + n then c * x (m + n - m) else 0) * 16 ^ (m + n) = c * 16 ^ m * (dg_ n x + x n * 16 ^ n)
    rw [ih, if_pos (Nat.le_add_right m n), Nat.add_sub_cancel_left, Nat.mul_add, Nat.pow_add]
    congr 1
    ac_rfl
theorem dg_ext (n k : Nat) {x : Nat → Nat} (h : ∀ u, n ≤ u → x u = 0) : dg_ (n + k) x = dg_ n x := by
  induction k with
  | zero => rfl
  | succ k ih =>
    show dg_ (n + k) x + x (n + k) * 16 ^ (n + k) = dg_ n x
    rw [ih, h (n + k) (Nat.le_add_right n k), Nat.zero_mul, Nat.add_zero]
def cn_ (x y : Nat → Nat) : Nat → Nat → Nat
  | 0, _ => 0
  | m + 1, w => cn_ x y m w + (if m ≤ w then y m * x (w - m) else 0)
theorem dg_prod (x y : Nat → Nat) (hx : ∀ u, 16 ≤ u → x u = 0) (m : Nat) (hm : m ≤ 16) : dg_ 16 x * dg_ m y = dg_ 32 (cn_ x y m) := by
  induction m with
  | zero => exact (dg_zero 32 (f := cn_ x y 0) (fun _ _ => rfl)).symm
  | succ m ih =>
    show dg_ 16 x * (dg_ m y + y m * 16 ^ m) = dg_ 32 (fun w => cn_ x y m w + (if m ≤ w then y m * x (w - m) else 0))
    rw [dg_add, Nat.mul_add, ih (by omega)]
    congr 1
    have e : dg_ 32 (fun w => if m ≤ w then y m * x (w - m) else 0) = dg_ (m + (32 - m)) (fun w => if m ≤ w then y m * x (w - m) else 0) := by
      congr 1
      omega
    have e2 : dg_ (32 - m) x = dg_ 16 x := by
      rw [show 32 - m = 16 + (16 - m) by omega]
      exact dg_ext 16 (16 - m) hx
    rw [e, dg_shift, e2, Nat.mul_comm]
theorem cn_le (x y : Nat → Nat) (hx : ∀ u, x u ≤ 1) (hy : ∀ u, y u ≤ 1) (m w : Nat) : cn_ x y m w ≤ m ∧ cn_ x y m w ≤ w + 1 := by
  induction m with
  | zero => exact ⟨Nat.le_refl _, Nat.zero_le _⟩
  | succ m ih =>
    show cn_ x y m w + (if m ≤ w then y m * x (w - m) else 0) ≤ m + 1 ∧ cn_ x y m w + (if m ≤ w then y m * x (w - m) else 0) ≤ w + 1
    by_cases h : m ≤ w
    · have h1 : y m * x (w - m) ≤ 1 * 1 := Nat.mul_le_mul (hy m) (hx (w - m))
      rw [if_pos h]
      omega
    · rw [if_neg h]
      omega
theorem cn_par (X Y : Nat → Bool) (m w : Nat) : cn_ (fun u => (X u).toNat) (fun v => (Y v).toNat) m w % 2 = (xs_ m (fun v => decide (v ≤ w) && (Y v && X (w - v)))).toNat := by
  induction m with
  | zero => rfl
  | succ m ih =>
    show (cn_ (fun u => (X u).toNat) (fun v => (Y v).toNat) m w + (if m ≤ w then (Y m).toNat * (X (w - m)).toNat else 0)) % 2 = (xs_ m (fun v => decide (v ≤ w) && (Y v && X (w - v))) ^^ (decide (m ≤ w) && (Y m && X (w - m)))).toNat
    generalize xs_ m (fun v => decide (v ≤ w) && (Y v && X (w - v))) = b at ih
    by_cases h : m ≤ w
    · simp only [h, if_true, decide_true, Bool.true_and]
      cases b <;> cases Y m <;> cases X (w - m) <;> simp at ih ⊢ <;> omega
    · simp only [h, if_false, decide_false, Bool.false_and]
      cases b <;> simp at ih ⊢ <;> omega
theorem dg_bit (n : Nat) (f : Nat → Bool) (j : Nat) : (dg_ n (fun u => (f u).toNat)).testBit j = (decide (j % 4 = 0) && (decide (j / 4 < n) && f (j / 4))) := by
  induction n with
  | zero => simp [dg_]
  | succ n ih =>
    have e : dg_ (n + 1) (fun u => (f u).toNat) = 2 ^ (4 * n) * (f n).toNat + dg_ n (fun u => (f u).toNat) := by
      show dg_ n (fun u => (f u).toNat) + (f n).toNat * 16 ^ n = _
      rw [Nat.pow_mul, Nat.mul_comm (f n).toNat, Nat.add_comm]
    have hlt : dg_ n (fun u => (f u).toNat) < 2 ^ (4 * n) := by
      rw [Nat.pow_mul]
      exact dg_lt n _ (fun i _ => Nat.le_trans (Bool.toNat_le (f i)) (by decide))
    rw [e, Nat.testBit_two_pow_mul_add _ hlt]
    by_cases h : j < 4 * n
    · rw [if_pos h, ih]
      have h1 : j / 4 < n := by omega
      have h2 : j / 4 < n + 1 := by omega
      simp [h1, h2]
    · rw [if_neg h, Nat.testBit_bool_toNat]
      by_cases h2 : j = 4 * n
      · have h3 : j - 4 * n = 0 := by omega
        have h4 : j % 4 = 0 := by omega
        have h5 : j / 4 = n := by omega
        simp [h3, h4, h5]
      · have h3 : ¬ j - 4 * n = 0 := by omega
        by_cases h4 : j % 4 = 0
        · have h5 : ¬ j / 4 < n + 1 := by omega
          simp [h3, h5]
        · simp [h3, h4]
-- the masks
def lo_G : Int64 := 1229782938247303441
theorem lo_Gb : ∀ k, k < 4 → ∀ j, j < 64 → wd_g (wd_sl lo_G k) j = decide (j % 4 = k) := by decide +kernel
theorem lo_nat (x : Int64) (k : Nat) (hk : k < 4) : (x &&& wd_sl lo_G k).toBitVec.toNat = 2 ^ k * dg_ 16 (fun u => (wd_g x (4 * u + k)).toNat) := by
  apply Nat.eq_of_testBit_eq
  intro j
  rw [BitVec.testBit_toNat, Nat.testBit_two_pow_mul]
  show wd_g (x &&& wd_sl lo_G k) j = _
  rw [wd_and, dg_bit 16 (fun u => wd_g x (4 * u + k))]
  by_cases hj : j < 64
  · rw [lo_Gb k hk j hj]
    by_cases e : j % 4 = k
    · have e1 : k ≤ j := by omega
      have e2 : (j - k) % 4 = 0 := by omega
      have e3 : (j - k) / 4 < 16 := by omega
      have e4 : 4 * ((j - k) / 4) + k = j := by omega
      simp [e, e1, e2, e3, e4]
    · by_cases e1 : k ≤ j
      · have e2 : ¬ (j - k) % 4 = 0 := by omega
        simp [e, e2]
      · simp [e, e1]
  · rw [wd_big (x := x) (j := j) (by omega)]
    by_cases e2 : (j - k) % 4 = 0
    · have e3 : ¬ (j - k) / 4 < 16 := by omega
      simp [e3]
    · simp [e2]
theorem lo_mul (a b : Int64) (n : Nat) (hn : n < 64) : wd_g (a * b) n = (a.toBitVec.toNat * b.toBitVec.toNat).testBit n := by
  show (a * b).toBitVec.getLsbD n = _
  rw [Int64.toBitVec_mul, ← BitVec.testBit_toNat, BitVec.toNat_mul, Nat.testBit_mod_two_pow]
  simp [hn]
theorem lo_dd (X Y : Nat → Bool) (hX : ∀ u, 16 ≤ u → X u = false) (w : Nat) (hw : w ≤ 15) : (dg_ 16 (fun u => (X u).toNat) * dg_ 16 (fun v => (Y v).toNat)).testBit (4 * w) = xs_ 16 (fun v => decide (v ≤ w) && (Y v && X (w - v))) := by
  have h1 : ∀ (f : Nat → Bool) (u : Nat), (f u).toNat ≤ 1 := fun f u => Bool.toNat_le (f u)
  rw [dg_prod _ _ (fun u hu => by rw [hX u hu]; rfl) 16 (Nat.le_refl _), Nat.testBit_eq_decide_div_mod_eq, Nat.pow_mul]
  have e : dg_ 32 (cn_ (fun u => (X u).toNat) (fun v => (Y v).toNat) 16) / (2 ^ 4) ^ w % 2 = cn_ (fun u => (X u).toNat) (fun v => (Y v).toNat) 16 w % 2 := by
    have h := dg_par (cn_ (fun u => (X u).toNat) (fun v => (Y v).toNat) 16) w (fun i hi => Nat.le_trans (cn_le _ _ (h1 X) (h1 Y) 16 i).2 (by omega)) (31 - w)
    rw [show w + 1 + (31 - w) = 32 by omega] at h
    exact h
  rw [e, cn_par]
  cases xs_ 16 (fun v => decide (v ≤ w) && (Y v && X (w - v))) <;> rfl
/-- one product with gaps -/
theorem lo_prod (x y : Int64) (k l n : Nat) (hk : k < 4) (hl : l < 4) (hn : n < 64) (hkl : n % 4 = (k + l) % 4) : wd_g ((x &&& wd_sl lo_G k) * (y &&& wd_sl lo_G l)) n = xs_ 64 (fun j => decide (j ≤ n) && ((wd_g y j && decide (j % 4 = l)) && (wd_g x (n - j) && decide ((n - j) % 4 = k)))) := by
  rw [lo_mul _ _ n hn, lo_nat x k hk, lo_nat y l hl]
  have e : 2 ^ k * dg_ 16 (fun u => (wd_g x (4 * u + k)).toNat) * (2 ^ l * dg_ 16 (fun u => (wd_g y (4 * u + l)).toNat)) = 2 ^ (k + l) * (dg_ 16 (fun u => (wd_g x (4 * u + k)).toNat) * dg_ 16 (fun u => (wd_g y (4 * u + l)).toNat)) := by
    rw [Nat.pow_add]
    ac_rfl
  rw [e, Nat.testBit_two_pow_mul]
  have hp := xs_pick 16 l hl (fun j => decide (j ≤ n) && ((wd_g y j && decide (j % 4 = l)) && (wd_g x (n - j) && decide ((n - j) % 4 = k)))) (fun j hj => by simp [hj])
  rw [show xs_ 64 (fun j => decide (j ≤ n) && ((wd_g y j && decide (j % 4 = l)) && (wd_g x (n - j) && decide ((n - j) % 4 = k)))) = _ from hp]
  by_cases h : k + l ≤ n
  · obtain ⟨w, hw⟩ : ∃ w, n = k + l + 4 * w := ⟨(n - (k + l)) / 4, by omega⟩
    have e1 : n - (k + l) = 4 * w := by omega
    rw [e1, lo_dd (fun u => wd_g x (4 * u + k)) (fun v => wd_g y (4 * v + l)) (fun u hu => wd_big (by omega)) w (by omega)]
    simp only [h, decide_true, Bool.true_and]
    refine xs_congr (fun v _ => ?_)
    have m1 : (4 * v + l) % 4 = l := by omega
    by_cases hv : v ≤ w
    · have a1 : 4 * v + l ≤ n := by omega
      have a2 : n - (4 * v + l) = 4 * (w - v) + k := by omega
      have a3 : (4 * (w - v) + k) % 4 = k := by omega
      simp [hv, a1, a2, a3, m1]
    · have a1 : ¬ 4 * v + l ≤ n := by omega
      simp [hv, a1]
  · simp only [h, decide_false, Bool.false_and]
    symm
    refine xs_false 16 (fun v _ => ?_)
    have a1 : ¬ 4 * v + l ≤ n := by omega
    simp [a1]
-- the loops
def lo_in (x y : Int64) (i : Nat) : Nat → Int64
  | 0 => 0
  | k + 1 => lo_in x y i k ^^^ ((x &&& wd_sl lo_G k) * (y &&& wd_sl lo_G ((i + 4 - k) % 4)))
def lo_out (x y : Int64) : Nat → Int64
  | 0 => 0
  | i + 1 => lo_out x y i ||| (lo_in x y i 4 &&& wd_sl lo_G i)
def lo_f (x y : Int64) : Int64 := lo_out x y 4
theorem lo_inb (x y : Int64) (n : Nat) (hn : n < 64) : wd_g (lo_in x y (n % 4) 4) n = xs_ 64 (fun j => decide (j ≤ n) && (wd_g y j && wd_g x (n - j))) := by
  have hi : n % 4 < 4 := Nat.mod_lt _ (by decide)
  have p0 := lo_prod x y 0 ((n % 4 + 4 - 0) % 4) n (by decide) (Nat.mod_lt _ (by decide)) hn (by omega)
  have p1 := lo_prod x y 1 ((n % 4 + 4 - 1) % 4) n (by decide) (Nat.mod_lt _ (by decide)) hn (by omega)
  have p2 := lo_prod x y 2 ((n % 4 + 4 - 2) % 4) n (by decide) (Nat.mod_lt _ (by decide)) hn (by omega)
  have p3 := lo_prod x y 3 ((n % 4 + 4 - 3) % 4) n (by decide) (Nat.mod_lt _ (by decide)) hn (by omega)
  show wd_g ((((0 ^^^ ((x &&& wd_sl lo_G 0) * (y &&& wd_sl lo_G ((n % 4 + 4 - 0) % 4)))) ^^^ ((x &&& wd_sl lo_G 1) * (y &&& wd_sl lo_G ((n % 4 + 4 - 1) % 4)))) ^^^ ((x &&& wd_sl lo_G 2) * (y &&& wd_sl lo_G ((n % 4 + 4 - 2) % 4)))) ^^^ ((x &&& wd_sl lo_G 3) * (y &&& wd_sl lo_G ((n % 4 + 4 - 3) % 4)))) n = _
  rw [wd_xor, wd_xor, wd_xor, wd_xor, wd_0, p0, p1, p2, p3, Bool.false_xor, ← xs_add, ← xs_add, ← xs_add]
  refine xs_congr (fun j _ => ?_)
  by_cases hj : j ≤ n
  · rcases (show (n - j) % 4 = 0 ∧ j % 4 = (n % 4 + 4 - 0) % 4 ∨ (n - j) % 4 = 1 ∧ j % 4 = (n % 4 + 4 - 1) % 4 ∨ (n - j) % 4 = 2 ∧ j % 4 = (n % 4 + 4 - 2) % 4 ∨ (n - j) % 4 = 3 ∧ j % 4 = (n % 4 + 4 - 3) % 4 by omega) with ⟨a, b⟩ | ⟨a, b⟩ | ⟨a, b⟩ | ⟨a, b⟩ <;> simp only [a, b, hj] <;> simp
  · simp [hj]
theorem lo_bits (x y : Int64) (n : Nat) (hn : n < 64) : wd_g (lo_f x y) n = xs_ 64 (fun j => decide (j ≤ n) && (wd_g y j && wd_g x (n - j))) := by
  rw [← lo_inb x y n hn]
  show wd_g ((((0 ||| (lo_in x y 0 4 &&& wd_sl lo_G 0)) ||| (lo_in x y 1 4 &&& wd_sl lo_G 1)) ||| (lo_in x y 2 4 &&& wd_sl lo_G 2)) ||| (lo_in x y 3 4 &&& wd_sl lo_G 3)) n = _
  rw [wd_or, wd_or, wd_or, wd_or, wd_0, wd_and, wd_and, wd_and, wd_and, lo_Gb 0 (by decide) n hn, lo_Gb 1 (by decide) n hn, lo_Gb 2 (by decide) n hn, lo_Gb 3 (by decide) n hn]
  rcases (show n % 4 = 0 ∨ n % 4 = 1 ∨ n % 4 = 2 ∨ n % 4 = 3 by omega) with e | e | e | e <;> simp [e]
/-- the whole product of two longs, by low and by what is turned -/
theorem pm_bits (x y : Int64) (n : Nat) (hn : n < 283) : (gf_mul (wd_z x) (wd_z y)).getLsbD n = xs_ 64 (fun j => decide (j ≤ n) && (wd_g y j && wd_g x (n - j))) := by
  have e : gf_mul (wd_z x) (wd_z y) = gf_S 64 (fun i => gf_b ((wd_z y).getLsbD i) (gf_xn i (wd_z x))) := gf_S_tail 64 219 (fun i hi => by rw [wd_zg, wd_big hi]; rfl)
  rw [e, gf_S_get]
  refine xs_congr (fun j hj => ?_)
  rw [gf_b_get, wd_zg, wd_zshg x j n (by omega)]
  by_cases h : j ≤ n
  · have h2 : ¬ n < j := by omega
    simp [h, h2, hn]
  · have h2 : n < j := by omega
    simp [h, h2]
def pm_hi (x y : Int64) : Int64 := wd_sr (tu_f (lo_f (tu_f x) (tu_f y))) 1
theorem pm_hib (x y : Int64) (m : Nat) : wd_g (pm_hi x y) m = xs_ 64 (fun j => decide (j ≤ 64 + m) && (wd_g y j && wd_g x (64 + m - j))) := by
  unfold pm_hi
  rw [wd_srg]
  by_cases h : m < 63
  · rw [tu_g _ (1 + m) (by omega), lo_bits _ _ _ (by omega), xs_rev]
    refine xs_congr (fun j hj => ?_)
    by_cases h2 : m + 1 ≤ j
    · have a1 : 64 - 1 - j ≤ 63 - (1 + m) := by omega
      have a2 : j ≤ 64 + m := by omega
      rw [tu_g y (64 - 1 - j) (by omega), tu_g x _ (by omega)]
      have a3 : 63 - (64 - 1 - j) = j := by omega
      have a4 : 63 - (63 - (1 + m) - (64 - 1 - j)) = 64 + m - j := by omega
      simp [a1, a2, a3, a4]
    · have a1 : ¬ 64 - 1 - j ≤ 63 - (1 + m) := by omega
      rw [wd_big (x := x) (j := 64 + m - j) (by omega)]
      simp [a1]
  · rw [wd_big (by omega)]
    symm
    refine xs_false 64 (fun j hj => ?_)
    rw [wd_big (x := x) (j := 64 + m - j) (by omega)]
    simp
theorem pm_ (x y : Int64) : gf_mul (wd_z x) (wd_z y) = wd_z (lo_f x y) ^^^ gf_xn 64 (wd_z (pm_hi x y)) := by
  apply BitVec.eq_of_getLsbD_eq
  intro n hn
  rw [pm_bits x y n hn, BitVec.getLsbD_xor, wd_zg, wd_zshg _ 64 n (by decide)]
  by_cases h : n < 64
  · rw [lo_bits x y n h]
    simp [h]
  · rw [wd_big (x := lo_f x y) (by omega), pm_hib]
    have e : 64 + (n - 64) = n := by omega
    simp [h, hn, e]
end
section
/-! THE CLASSES' LOOPS, as functions on rows of longs, and what they come to in the field -/
-- ===== Field283.times =====
def tm_in (x o : Int64) (Y : Nat → Int64) (i : Nat) (W : Nat → Int64) : Nat → Nat → Int64
  | 0 => W
  | j + 1 => vp_updL (vp_updL (tm_in x o Y i W j) (i + j) (tm_in x o Y i W j (i + j) ^^^ lo_f x (Y j))) (i + j + 1) ((vp_updL (tm_in x o Y i W j) (i + j) (tm_in x o Y i W j (i + j) ^^^ lo_f x (Y j))) (i + j + 1) ^^^ wd_sr (tu_f (lo_f o (tu_f (Y j)))) 1)
def tm_out (A Y W : Nat → Int64) : Nat → Nat → Int64
  | 0 => W
  | i + 1 => tm_in (A i) (tu_f (A i)) Y i (tm_out A Y W i) 5
theorem tm_in_of (x : Int64) (Y : Nat → Int64) (i : Nat) (hi : i < 5) (W : Nat → Int64) (j : Nat) (hj : j ≤ 5) : wd_of 10 (tm_in x (tu_f x) Y i W j) = wd_of 10 W ^^^ gf_xn (64 * i) (gf_mul (wd_z x) (wd_of j Y)) := by
  induction j with
  | zero =>
    show wd_of 10 W = wd_of 10 W ^^^ gf_xn (64 * i) (gf_mul (wd_z x) 0#283)
    rw [gf_mul_0_r, gf_xn_0, BitVec.xor_zero]
  | succ j ih =>
    show wd_of 10 (vp_updL (vp_updL (tm_in x (tu_f x) Y i W j) (i + j) (tm_in x (tu_f x) Y i W j (i + j) ^^^ lo_f x (Y j))) (i + j + 1) ((vp_updL (tm_in x (tu_f x) Y i W j) (i + j) (tm_in x (tu_f x) Y i W j (i + j) ^^^ lo_f x (Y j))) (i + j + 1) ^^^ pm_hi x (Y j))) = _
    rw [wd_of_up 10 (i + j + 1) (by omega), wd_of_up 10 (i + j) (by omega), ih (by omega), wd_of_s j Y, gf_mul_add_r, gf_xn_add, gf_mul_xn_r, pm_, gf_xn_add, gf_xn_add, ← gf_xn_xn, ← gf_xn_xn, ← gf_xn_xn]
    have e1 : 64 * (i + j) = 64 * i + 64 * j := by omega
    have e2 : 64 * (i + j + 1) = 64 * i + (64 * j + 64) := by omega
    rw [e1, e2, BitVec.xor_assoc, BitVec.xor_assoc, Nat.add_assoc]
theorem tm_out_of (A Y W : Nat → Int64) (i : Nat) (hi : i ≤ 5) : wd_of 10 (tm_out A Y W i) = wd_of 10 W ^^^ gf_mul (wd_of i A) (wd_of 5 Y) := by
  induction i with
  | zero =>
    show wd_of 10 W = wd_of 10 W ^^^ gf_mul 0#283 (wd_of 5 Y)
    rw [gf_mul_0_l, BitVec.xor_zero]
  | succ i ih =>
    show wd_of 10 (tm_in (A i) (tu_f (A i)) Y i (tm_out A Y W i) 5) = _
    rw [tm_in_of (A i) Y i (by omega) _ 5 (Nat.le_refl _), ih (by omega), wd_of_s i A, gf_mul_add_l, gf_mul_xn_l, BitVec.xor_assoc]
theorem wd_of_0 (L : Nat) {W : Nat → Int64} (h : ∀ k, k < L → W k = 0) : wd_of L W = 0#283 := by
  induction L with
  | zero => rfl
  | succ L ih =>
    rw [wd_of_s, ih (fun k hk => h k (by omega)), h L (by omega), wd_z0, gf_xn_0, BitVec.xor_zero]
theorem tm_rp (A Y W : Nat → Int64) {a y : gf_V} (hW : ∀ k, k < 10 → W k = 0) (hA : rp_ A a) (hY : rp_ Y y) : rp_ (rd_tl (rd_lp (tm_out A Y W 5) 5)) (gf_mul a y) := by
  have h := rd_rp (tm_out A Y W 5)
  rw [tm_out_of A Y W 5 (Nat.le_refl _), wd_of_0 10 hW, BitVec.zero_xor, rp_of hA, rp_of hY] at h
  exact h
-- ===== Field283.twice =====
def tw_lp (A W : Nat → Int64) : Nat → Nat → Int64
  | 0 => W
  | k + 1 => vp_updL (vp_updL (tw_lp A W k) (2 * k) (sp_f (A k))) (2 * k + 1) (sp_f (wd_sr (A k) 32))
theorem tw_get (A W : Nat → Int64) (n k : Nat) (hk : k < n) : tw_lp A W n (2 * k) = sp_f (A k) ∧ tw_lp A W n (2 * k + 1) = sp_f (wd_sr (A k) 32) := by
  induction n with
  | zero => omega
  | succ n ih =>
    show vp_updL (vp_updL (tw_lp A W n) (2 * n) (sp_f (A n))) (2 * n + 1) (sp_f (wd_sr (A n) 32)) (2 * k) = _ ∧ vp_updL (vp_updL (tw_lp A W n) (2 * n) (sp_f (A n))) (2 * n + 1) (sp_f (wd_sr (A n) 32)) (2 * k + 1) = _
    by_cases e : k = n
    · subst e
      exact ⟨by rw [pk_uLn (by omega), pk_uLs], by rw [pk_uLs]⟩
    · have h := ih (by omega)
      exact ⟨by rw [pk_uLn (by omega), pk_uLn (by omega)]; exact h.1, by rw [pk_uLn (by omega), pk_uLn (by omega)]; exact h.2⟩
theorem sq_w (w : Int64) : gf_sq (wd_z w) = wd_z (sp_f w) ^^^ gf_xn 64 (wd_z (sp_f (wd_sr w 32))) := by
  have e : wd_z w = gf_S 64 (fun i => gf_b (wd_g w i) (gf_xn i 1#283)) := by
    have h := gf_rep (wd_z w)
    have h2 := gf_S_tail 64 219 (g := fun i => gf_b ((wd_z w).getLsbD i) (gf_xn i 1#283)) (fun i hi => by rw [wd_zg, wd_big hi]; rfl)
    rw [show (64 : Nat) + 219 = 283 from rfl, h] at h2
    rw [h2]
    exact gf_S_congr (fun i _ => by rw [wd_zg])
  have e2 : gf_sq (wd_z w) = gf_S 64 (fun i => gf_b (wd_g w i) (gf_xn (i + i) 1#283)) := by
    rw [e, gf_S_map gf_sq gf_sq_0 gf_sq_add]
    exact gf_S_congr (fun i _ => by rw [gf_sq_b, gf_sq_xn, gf_sq_1])
  rw [e2]
  apply BitVec.eq_of_getLsbD_eq
  intro n hn
  have e3 : xs_ 64 (fun i => (gf_b (wd_g w i) (gf_xn (i + i) 1#283)).getLsbD n) = (decide (n % 2 = 0) && wd_g w (n / 2)) := by
    rw [xs_congr (g := fun i => decide (i = n / 2) && (decide (n % 2 = 0) && wd_g w i)) (fun i hi => by
      rw [gf_b_get, gf_one (i + i) n (by omega)]
      by_cases a : n = i + i
      · have a1 : i = n / 2 := by omega
        have a2 : n % 2 = 0 := by omega
        simp [a, a2]
        rw [show (i + i) / 2 = i by omega, show (i + i) % 2 = 0 by omega]
        simp
      · by_cases b : i = n / 2
        · have c : ¬ n % 2 = 0 := by omega
          simp [a, c]
        · simp [a, b]), xs_one]
    by_cases h : n / 2 < 64
    · simp [h]
    · rw [wd_big (x := w) (j := n / 2) (by omega)]
      simp
  rw [gf_S_get, e3, BitVec.getLsbD_xor, wd_zg, wd_zshg _ 64 n (by decide)]
  by_cases h : n < 64
  · rw [sp_bits w n h]
    by_cases e4 : n % 2 = 0
    · simp [h, e4]
    · have e5 : (n % 2 == 0) = false := by simp; omega
      simp [h, e4, e5, bp_64]
  · rw [wd_big (x := sp_f w) (j := n) (by omega)]
    by_cases h2 : n < 128
    · rw [sp_bits (wd_sr w 32) (n - 64) (by omega)]
      by_cases e4 : n % 2 = 0
      · have e5 : (n - 64) % 2 = 0 := by omega
        have e6 : 32 + (n - 64) / 2 = n / 2 := by omega
        simp [h, hn, e4, e5, wd_srg, e6]
      · have e5 : ¬ (n - 64) % 2 = 0 := by omega
        have e6 : ((n - 64) % 2 == 0) = false := by simp; omega
        simp [h, hn, e4, e5, e6, bp_64]
    · rw [wd_big (x := w) (j := n / 2) (by omega), wd_big (j := n - 64) (by omega)]
      simp
theorem tw_of (A W : Nat → Int64) : wd_of 10 (tw_lp A W 5) = gf_sq (wd_of 5 A) := by
  unfold wd_of
  rw [gf_S_map gf_sq gf_sq_0 gf_sq_add, gf_S_two 5]
  refine gf_S_congr (fun k hk => ?_)
  have h := tw_get A W 5 k hk
  rw [h.1, h.2, gf_sq_xn, sq_w, gf_xn_add, ← gf_xn_xn]
  congr 2
  · omega
  · omega
theorem tw_rp (A W : Nat → Int64) {a : gf_V} (hA : rp_ A a) : rp_ (rd_tl (rd_lp (tw_lp A W 5) 5)) (gf_sq a) := by
  have h := rd_rp (tw_lp A W 5)
  rw [tw_of, rp_of hA] at h
  exact h
-- ===== Field283.root =====
def rt_lp (g : Int64 → Int64) (C B : Nat → Int64) : Nat → Nat → Int64
  | 0 => B
  | k + 1 => vp_updL (rt_lp g C B k) (k / 2) (rt_lp g C B k (k / 2) ||| wd_sl (g (C k)) (32 * (k % 2)))
theorem rt_vals (g : Int64 → Int64) (C B : Nat → Int64) (hB : ∀ k, k < 5 → B k = 0) : rt_lp g C B 5 0 = ((0 ||| wd_sl (g (C 0)) 0) ||| wd_sl (g (C 1)) 32) ∧ rt_lp g C B 5 1 = ((0 ||| wd_sl (g (C 2)) 0) ||| wd_sl (g (C 3)) 32) ∧ rt_lp g C B 5 2 = (0 ||| wd_sl (g (C 4)) 0) ∧ rt_lp g C B 5 3 = 0 ∧ rt_lp g C B 5 4 = 0 := by
  have h0 := hB 0 (by decide)
  have h1 := hB 1 (by decide)
  have h2 := hB 2 (by decide)
  have h3 := hB 3 (by decide)
  have h4 := hB 4 (by decide)
  refine ⟨?_, ?_, ?_, ?_, ?_⟩
  · show (B 0 ||| wd_sl (g (C 0)) 0) ||| wd_sl (g (C 1)) 32 = _
    rw [h0]
  · show (B 1 ||| wd_sl (g (C 2)) 0) ||| wd_sl (g (C 3)) 32 = _
    rw [h1]
  · show (B 2 ||| wd_sl (g (C 4)) 0) = _
    rw [h2]
  · exact h3
  · exact h4
/-- half of the bits: those at 2i + e -/
theorem rt_bits (g : Int64 → Int64) (e : Nat) (he : e < 2) (hg : ∀ x j, j < 64 → wd_g (g x) j = (decide (j < 32) && wd_g x (2 * j + e))) (C B : Nat → Int64) (hB : ∀ k, k < 5 → B k = 0) {v : gf_V} (hC : rp_ C v) : ∀ k, k < 5 → ∀ r, r < 64 → wd_g (rt_lp g C B 5 k) r = v.getLsbD (2 * (64 * k + r) + e) := by
  obtain ⟨e0, e1, e2, e3, e4⟩ := rt_vals g C B hB
  have word : ∀ i, i + 1 < 5 → ∀ r, r < 64 → wd_g ((0 ||| wd_sl (g (C i)) 0) ||| wd_sl (g (C (i + 1))) 32) r = v.getLsbD (64 * i + (2 * r + e)) := by
    intro i hi r hr
    rw [wd_or, wd_or, wd_0, wd_slg, wd_slg, hg _ _ (show r - 0 < 64 by omega), hg _ _ (show r - 32 < 64 by omega)]
    by_cases h : r < 32
    · rw [← hC i (by omega) (2 * r + e) (by omega)]
      simp [h, hr]
    · have a1 : r - 32 < 32 := by omega
      have a2 : 64 * i + (2 * r + e) = 64 * (i + 1) + (2 * (r - 32) + e) := by omega
      rw [a2, ← hC (i + 1) (by omega) (2 * (r - 32) + e) (by omega)]
      simp [h, hr, a1]
  intro k hk r hr
  rcases (show k = 0 ∨ k = 1 ∨ k = 2 ∨ k = 3 ∨ k = 4 by omega) with rfl | rfl | rfl | rfl | rfl
  · rw [e0, word 0 (by decide) r hr]
    congr 1
    omega
  · rw [e1, word 2 (by decide) r hr]
    congr 1
    omega
  · rw [e2, wd_or, wd_0, wd_slg, hg _ _ (show r - 0 < 64 by omega)]
    by_cases h : r < 32
    · rw [show 2 * (64 * 2 + r) + e = 64 * 4 + (2 * r + e) by omega, ← hC 4 (by decide) (2 * r + e) (by omega)]
      simp [h, hr]
    · rw [BitVec.getLsbD_of_ge _ _ (by omega)]
      simp [h]
  · rw [e3, wd_0, BitVec.getLsbD_of_ge _ _ (by omega)]
  · rw [e4, wd_0, BitVec.getLsbD_of_ge _ _ (by omega)]
theorem rt_half (g : Int64 → Int64) (e : Nat) (he : e < 2) (hg : ∀ x j, j < 64 → wd_g (g x) j = (decide (j < 32) && wd_g x (2 * j + e))) (C B : Nat → Int64) (hB : ∀ k, k < 5 → B k = 0) {v : gf_V} (hC : rp_ C v) : ∃ u : gf_V, rp_ (rt_lp g C B 5) u ∧ ∀ i, u.getLsbD i = v.getLsbD (2 * i + e) := by
  have hb := rt_bits g e he hg C B hB hC
  have hr : rp_ (rt_lp g C B 5) (wd_of 5 (rt_lp g C B 5)) := rp_self _ (fun r _ => by
    rw [(rt_vals g C B hB).2.2.2.2, wd_0])
  refine ⟨_, hr, fun i => ?_⟩
  by_cases hi : i < 320
  · have a : i = 64 * (i / 64) + i % 64 := by omega
    rw [a, ← hr (i / 64) (by omega) (i % 64) (by omega), hb (i / 64) (by omega) (i % 64) (by omega)]
  · rw [BitVec.getLsbD_of_ge _ _ (by omega), BitVec.getLsbD_of_ge _ _ (by omega)]
theorem rt_ga (x : Int64) (j : Nat) (hj : j < 64) : wd_g (ga_f x) j = (decide (j < 32) && wd_g x (2 * j + 0)) := by
  rw [ga_bits x j hj]
  by_cases h : j < 32
  · have h2 : Nat.blt j 32 = true := Nat.ble_eq.mpr h
    simp [h, h2]
  · have h2 : Nat.blt j 32 = false := by
      cases hb : Nat.blt j 32
      · rfl
      · exact absurd (Nat.ble_eq.mp hb) h
    simp [h, h2, bp_64]
theorem rt_gb (x : Int64) (j : Nat) (hj : j < 64) : wd_g (ga_f (wd_sr x 1)) j = (decide (j < 32) && wd_g x (2 * j + 1)) := by
  rw [rt_ga _ j hj, wd_srg, Nat.add_zero, Nat.add_comm]
theorem rt_sum {u v w : gf_V} (h0 : ∀ i, u.getLsbD i = v.getLsbD (2 * i + 0)) (h1 : ∀ i, w.getLsbD i = v.getLsbD (2 * i + 1)) : v = gf_sq u ^^^ gf_x (gf_sq w) := by
  have sqs : ∀ t : gf_V, (∀ i, 142 ≤ i → t.getLsbD i = false) → gf_sq t = gf_S 142 (fun i => gf_b (t.getLsbD i) (gf_xn (2 * i) 1#283)) := by
    intro t ht
    have h := gf_rep t
    have h2 := gf_S_tail 142 141 (g := fun i => gf_b (t.getLsbD i) (gf_xn i 1#283)) (fun i hi => by rw [ht i hi]; rfl)
    rw [show (142 : Nat) + 141 = 283 from rfl, h] at h2
    have h3 := congrArg gf_sq h2
    rw [gf_S_map gf_sq gf_sq_0 gf_sq_add] at h3
    rw [h3]
    exact gf_S_congr (fun i _ => by rw [gf_sq_b, gf_sq_xn, gf_sq_1, Nat.two_mul])
  rw [sqs u (fun i hi => by rw [h0, BitVec.getLsbD_of_ge _ _ (by omega)]), sqs w (fun i hi => by rw [h1, BitVec.getLsbD_of_ge _ _ (by omega)]), gf_S_map gf_x gf_x_0 gf_x_add, ← gf_S_add]
  have h := gf_rep v
  have h2 : gf_S (2 * 142) (fun i => gf_b (v.getLsbD i) (gf_xn i 1#283)) = gf_S 283 (fun i => gf_b (v.getLsbD i) (gf_xn i 1#283)) := by
    show gf_S 283 (fun i => gf_b (v.getLsbD i) (gf_xn i 1#283)) ^^^ gf_b (v.getLsbD 283) (gf_xn 283 1#283) = _
    rw [BitVec.getLsbD_of_ge _ _ (Nat.le_refl _)]
    show _ ^^^ 0#283 = _
    rw [BitVec.xor_zero]
  rw [h, gf_S_two] at h2
  refine Eq.trans h2.symm (gf_S_congr (fun i _ => ?_))
  rw [h0, h1, gf_x_b]
  rfl
def gf_root : gf_V := gf_sqn 282 (gf_x 1#283)
/-- the root, by halves -/
theorem rt_eq {u v w : gf_V} (h0 : ∀ i, u.getLsbD i = v.getLsbD (2 * i + 0)) (h1 : ∀ i, w.getLsbD i = v.getLsbD (2 * i + 1)) : gf_mul w gf_root ^^^ u = gf_sqn 282 v := by
  have h := rt_sum h0 h1
  have e : ∀ t, gf_sqn 282 (gf_sq t) = t := fun t => by
    rw [gf_sqn_sq]
    exact gf_frob t
  have h2 := congrArg (gf_sqn 282) h
  rw [gf_sqn_add, e, ← gf_x_mul, gf_sqn_mul, e] at h2
  rw [h2, gf_mul_comm, BitVec.xor_comm]
  rfl
-- ===== Field283Model.times =====
def ms_lp (Z : Nat → Int64) : Nat → Nat → Int64
  | 0 => Z
  | n + 1 => vp_updL (ms_lp Z n) (4 - n) (wd_sl (ms_lp Z n (4 - n)) 1 ||| wd_sr (ms_lp Z n (4 - n - 1)) 63)
def ms_sh (Z : Nat → Int64) : Nat → Int64 := vp_updL (ms_lp Z 4) 0 (wd_sl (ms_lp Z 4 0) 1)
def ms_mk (Z : Nat → Int64) : Nat → Int64 := vp_updL Z 4 (Z 4 &&& 134217727)
def ms_fl (Z : Nat → Int64) (i : Nat) : Nat → Int64 := vp_updL Z (i / 64) (Z (i / 64) ^^^ wd_sl 1 (i % 64))
def ms_x (Z : Nat → Int64) : Nat → Int64 := bif wd_g (Z 4) 26 then ms_fl (ms_fl (ms_fl (ms_fl (ms_mk (ms_sh Z)) 12) 7) 5) 0 else ms_mk (ms_sh Z)
theorem ms_vals (Z : Nat → Int64) : ms_mk (ms_sh Z) 0 = wd_sl (Z 0) 1 ∧ ms_mk (ms_sh Z) 1 = (wd_sl (Z 1) 1 ||| wd_sr (Z 0) 63) ∧ ms_mk (ms_sh Z) 2 = (wd_sl (Z 2) 1 ||| wd_sr (Z 1) 63) ∧ ms_mk (ms_sh Z) 3 = (wd_sl (Z 3) 1 ||| wd_sr (Z 2) 63) ∧ ms_mk (ms_sh Z) 4 = ((wd_sl (Z 4) 1 ||| wd_sr (Z 3) 63) &&& 134217727) := ⟨rfl, rfl, rfl, rfl, rfl⟩
theorem ms_shift {Z : Nat → Int64} {v : gf_V} (h : rp_ Z v) : rp_ (ms_mk (ms_sh Z)) (v <<< 1) := by
  obtain ⟨e0, e1, e2, e3, e4⟩ := ms_vals Z
  have word : ∀ k, k + 1 < 5 → ∀ r, r < 64 → wd_g (wd_sl (Z (k + 1)) 1 ||| wd_sr (Z k) 63) r = v.getLsbD (64 * (k + 1) + r - 1) := by
    intro k hk r hr
    rw [wd_or, wd_slg, wd_srg]
    by_cases a : r < 1
    · have a0 : r = 0 := by omega
      subst a0
      rw [h k (by omega) (63 + 0) (by omega)]
      simp
      congr 1
    · rw [h (k + 1) hk (r - 1) (by omega), wd_big (j := 63 + r) (by omega), show 64 * (k + 1) + r - 1 = 64 * (k + 1) + (r - 1) by omega]
      simp [a, hr]
  intro k hk r hr
  rw [BitVec.getLsbD_shiftLeft]
  rcases (show k = 0 ∨ k = 1 ∨ k = 2 ∨ k = 3 ∨ k = 4 by omega) with rfl | rfl | rfl | rfl | rfl
  · rw [e0, wd_slg]
    by_cases a : r < 1
    · simp [a]
    · rw [h 0 (by decide) (r - 1) (by omega)]
      have b : 64 * 0 + (r - 1) = 64 * 0 + r - 1 := by omega
      have c : ¬ 64 * 0 + r < 1 := by omega
      have d : 64 * 0 + r < 283 := by omega
      simp only [b, c, d, a, hr, decide_true, decide_false, Bool.true_and, Bool.not_false]
  · rw [e1, word 0 (by decide) r hr]
    have c : ¬ 64 * 1 + r < 1 := by omega
    have d : 64 * 1 + r < 283 := by omega
    simp [c, d]
  · rw [e2, word 1 (by decide) r hr]
    have c : ¬ 64 * 2 + r < 1 := by omega
    have d : 64 * 2 + r < 283 := by omega
    simp [c, d]
  · rw [e3, word 2 (by decide) r hr]
    have c : ¬ 64 * 3 + r < 1 := by omega
    have d : 64 * 3 + r < 283 := by omega
    simp [c, d]
  · rw [e4, wd_and, word 3 (by decide) r hr, wd_m27 r hr]
    have c : ¬ 64 * 4 + r < 1 := by omega
    by_cases d : r < 27
    · have d2 : 64 * 4 + r < 283 := by omega
      simp [c, d, d2]
    · have d2 : ¬ 64 * 4 + r < 283 := by omega
      simp [d, d2]
theorem ms_flip {Z : Nat → Int64} {v : gf_V} (h : rp_ Z v) (i : Nat) (hi : i < 64) : rp_ (ms_fl Z i) (v ^^^ 1#283 <<< i) := by
  intro k hk r hr
  rw [BitVec.getLsbD_xor, BitVec.getLsbD_shiftLeft, BitVec.getLsbD_one]
  have e : ms_fl Z i = vp_updL Z 0 (Z 0 ^^^ wd_sl 1 i) := by
    unfold ms_fl
    rw [show i / 64 = 0 by omega, show i % 64 = i by omega]
  have one : ∀ j, j < 64 → wd_g 1 j = decide (j = 0) := by decide +kernel
  rw [e]
  by_cases hk0 : k = 0
  · subst hk0
    rw [pk_uLs, wd_xor, wd_slg, one _ (by omega), h 0 (by decide) r hr]
    have d : 64 * 0 + r < 283 := by omega
    rw [show 64 * 0 + r = r by omega] at d ⊢
    simp [hr, d]
  · rw [pk_uLn hk0, h k hk r hr]
    have a : ¬ 64 * k + r - i = 0 := by omega
    simp [a]
theorem ms_x_rp {Z : Nat → Int64} {v : gf_V} (h : rp_ Z v) : rp_ (ms_x Z) (gf_x v) := by
  unfold ms_x gf_x
  rw [h 4 (by decide) 26 (by decide)]
  cases v.getLsbD (64 * 4 + 26)
  · show rp_ (ms_mk (ms_sh Z)) (v <<< 1 ^^^ 0#283)
    rw [BitVec.xor_zero]
    exact ms_shift h
  · show rp_ (ms_fl (ms_fl (ms_fl (ms_fl (ms_mk (ms_sh Z)) 12) 7) 5) 0) (v <<< 1 ^^^ gf_c)
    have h2 := ms_flip (ms_flip (ms_flip (ms_flip (ms_shift h) 12 (by decide)) 7 (by decide)) 5 (by decide)) 0 (by decide)
    have e : gf_c = ((1#283 <<< 12 ^^^ 1#283 <<< 7) ^^^ 1#283 <<< 5) ^^^ 1#283 <<< 0 := by decide +kernel
    rw [e, ← BitVec.xor_assoc, ← BitVec.xor_assoc, ← BitVec.xor_assoc]
    exact h2
/-- Horner: what stands in z when the bits from n on are done -/
theorem mh_step (p q z : gf_V) (n : Nat) (h : gf_xn (n + 1) z ^^^ gf_S (n + 1) (fun i => gf_b (q.getLsbD i) (gf_xn i p)) = gf_mul p q) : gf_xn n (gf_x z ^^^ gf_b (q.getLsbD n) p) ^^^ gf_S n (fun i => gf_b (q.getLsbD i) (gf_xn i p)) = gf_mul p q := by
  rw [← h, gf_xn_add, gf_xn_b, gf_xn_x]
  show gf_x (gf_xn n z) ^^^ gf_b (q.getLsbD n) (gf_xn n p) ^^^ gf_S n (fun i => gf_b (q.getLsbD i) (gf_xn i p)) = gf_x (gf_xn n z) ^^^ (gf_S n (fun i => gf_b (q.getLsbD i) (gf_xn i p)) ^^^ gf_b (q.getLsbD n) (gf_xn n p))
  rw [BitVec.xor_assoc, BitVec.xor_comm (gf_b (q.getLsbD n) (gf_xn n p))]
theorem mh_start (p q : gf_V) : gf_xn 283 0#283 ^^^ gf_S 283 (fun i => gf_b (q.getLsbD i) (gf_xn i p)) = gf_mul p q := by
  rw [gf_xn_0, BitVec.zero_xor]
  rfl
end
section
-- ===== PART A: goes FIRST, ahead of the names: the tables' words, and 'selects' of the private methods out of them =====
/-- a private method of a class that the tables say can be made, by its rows of tables_1 -/
def lw_okq (q : MethodName × Nat) : Prop := (q.1.cls ≠ "java/lang/invoke/MethodHandle" ∧ q.1.cls ≠ "java/lang/invoke/VarHandle") ∧ Cond.instantiable q.1.cls q.2 ∈ tables_1 ∧ Cond.privateMethod q.1 ∈ tables_1 ∧ Cond.instanceMethod q.1 ∈ tables_1
set_option maxRecDepth 100000
theorem lw_p0 : lw_okq (⟨"Field283", "twice", "()V"⟩, 7) := ⟨⟨by decide +kernel, by decide +kernel⟩, List.mem_of_getElem? (i := 4) rfl, List.mem_of_getElem? (i := 13) rfl, List.mem_of_getElem? (i := 14) rfl⟩
theorem lw_p1 : lw_okq (⟨"Field283", "reduce", "()V"⟩, 7) := ⟨⟨by decide +kernel, by decide +kernel⟩, List.mem_of_getElem? (i := 4) rfl, List.mem_of_getElem? (i := 26) rfl, List.mem_of_getElem? (i := 27) rfl⟩
theorem lw_p2 : lw_okq (⟨"Field283", "set", "(I)V"⟩, 7) := ⟨⟨by decide +kernel, by decide +kernel⟩, List.mem_of_getElem? (i := 4) rfl, List.mem_of_getElem? (i := 66) rfl, List.mem_of_getElem? (i := 67) rfl⟩
theorem lw_p3 : lw_okq (⟨"Field283", "get", "([JI)V"⟩, 7) := ⟨⟨by decide +kernel, by decide +kernel⟩, List.mem_of_getElem? (i := 4) rfl, List.mem_of_getElem? (i := 82) rfl, List.mem_of_getElem? (i := 83) rfl⟩
theorem lw_p4 : lw_okq (⟨"Field283", "times", "([J)V"⟩, 7) := ⟨⟨by decide +kernel, by decide +kernel⟩, List.mem_of_getElem? (i := 4) rfl, List.mem_of_getElem? (i := 94) rfl, List.mem_of_getElem? (i := 95) rfl⟩
theorem lw_p5 : lw_okq (⟨"Field283", "often", "(I)V"⟩, 7) := ⟨⟨by decide +kernel, by decide +kernel⟩, List.mem_of_getElem? (i := 4) rfl, List.mem_of_getElem? (i := 114) rfl, List.mem_of_getElem? (i := 115) rfl⟩
theorem lw_p6 : lw_okq (⟨"Field283Model", "give", "(I[J)V"⟩, 6) := ⟨⟨by decide +kernel, by decide +kernel⟩, List.mem_of_getElem? (i := 133) rfl, List.mem_of_getElem? (i := 172) rfl, List.mem_of_getElem? (i := 173) rfl⟩
theorem lw_p7 : lw_okq (⟨"Field283Model", "take", "([JI)V"⟩, 6) := ⟨⟨by decide +kernel, by decide +kernel⟩, List.mem_of_getElem? (i := 133) rfl, List.mem_of_getElem? (i := 185) rfl, List.mem_of_getElem? (i := 186) rfl⟩
theorem lw_p8 : lw_okq (⟨"Field283Model", "times", "([J[J)V"⟩, 6) := ⟨⟨by decide +kernel, by decide +kernel⟩, List.mem_of_getElem? (i := 133) rfl, List.mem_of_getElem? (i := 200) rfl, List.mem_of_getElem? (i := 201) rfl⟩
theorem lw_p9 : lw_okq (⟨"Field283Model", "copy", "([J[J)V"⟩, 6) := ⟨⟨by decide +kernel, by decide +kernel⟩, List.mem_of_getElem? (i := 133) rfl, List.mem_of_getElem? (i := 215) rfl, List.mem_of_getElem? (i := 216) rfl⟩
def lw_privs_1 : List (MethodName × Nat) := [(⟨"Field283", "twice", "()V"⟩, 7), (⟨"Field283", "reduce", "()V"⟩, 7), (⟨"Field283", "set", "(I)V"⟩, 7), (⟨"Field283", "get", "([JI)V"⟩, 7), (⟨"Field283", "times", "([J)V"⟩, 7), (⟨"Field283", "often", "(I)V"⟩, 7), (⟨"Field283Model", "give", "(I[J)V"⟩, 6), (⟨"Field283Model", "take", "([JI)V"⟩, 6), (⟨"Field283Model", "times", "([J[J)V"⟩, 6), (⟨"Field283Model", "copy", "([J[J)V"⟩, 6)]
theorem lw_r1 : ∀ q ∈ lw_privs_1, lw_okq q := List.forall_mem_cons.mpr ⟨lw_p0, List.forall_mem_cons.mpr ⟨lw_p1, List.forall_mem_cons.mpr ⟨lw_p2, List.forall_mem_cons.mpr ⟨lw_p3, List.forall_mem_cons.mpr ⟨lw_p4, List.forall_mem_cons.mpr ⟨lw_p5, List.forall_mem_cons.mpr ⟨lw_p6, List.forall_mem_cons.mpr ⟨lw_p7, List.forall_mem_cons.mpr ⟨lw_p8, List.forall_mem_cons.mpr ⟨lw_p9, fun _ h => absurd h List.not_mem_nil⟩⟩⟩⟩⟩⟩⟩⟩⟩⟩
def lw_privs : List (MethodName × Nat) := lw_privs_1
def lw_tbl : List Cond := k2_sels lw_privs ++ tables_1
theorem lw_privs_ok : ∀ q ∈ lw_privs, lw_okq q := lw_r1
-- ===== ONE list of words for every method: the tables' words that hold all through a run =====
def lw_all : List Cond := lw_tbl.filter goodWord
/-- a word of the tables by its place: claim/WORDS.tsv -/
theorem lw_w {w : Cond} (i : Nat) (h : lw_tbl[i]? = some w) (g : goodWord w = true) : w ∈ lw_all := List.mem_filter.mpr ⟨List.mem_of_getElem? h, g⟩
theorem lw_all_tbl {w : Cond} (h : w ∈ lw_all) : w ∈ lw_tbl := (List.mem_filter.mp h).1
theorem lw_self : GoodIn lw_all lw_all := fun w h => ⟨h, good_of_word (List.mem_filter.mp h).2⟩
/-- a class's field words, by their places -/
theorem lw_in (ws : List Cond) (ps : List Nat) (hp : ws = ps.filterMap (fun i => lw_tbl[i]?)) (hg : ws.all goodWord = true) : ∀ w ∈ ws, w ∈ lw_all := by
  intro w h
  have h1 := List.all_eq_true.mp hg w h
  rw [hp] at h
  obtain ⟨i, -, hi⟩ := List.mem_filterMap.mp h
  exact lw_w i hi h1
/-- the words of a contract for the method y with code b, L locals, answer r -/
abbrev ws_ (y : MethodName) (b : ByteArray) (L : Nat) (r : Option FieldType) : List Cond := Cond.code y b L r :: lw_all
theorem lw_meth {y : MethodName} {b : ByteArray} {L : Nat} {r : Option FieldType} (h : Cond.code y b L r ∈ lw_all) : GoodIn lw_all (ws_ y b L r) := by
  intro w hw
  rcases List.mem_cons.mp hw with e | e
  · rw [e]
    exact lw_self _ h
  · exact lw_self _ e
theorem lw_app {a c : List Cond} (ha : ∀ w ∈ a, w ∈ lw_all) (hc : GoodIn lw_all c) : GoodIn lw_all (a ++ c) := by
  intro w hw
  rcases List.mem_append.mp hw with e | e
  · exact lw_self w (ha w e)
  · exact hc w e
/-- what a call through an object asks: cwV n hts (lw_V ..) -/
theorem lw_V {own : String} {idx : Nat} {C : String} {y : MethodName} {b : ByteArray} {L : Nat} {r : Option FieldType} (h1 : Cond.methodLink own idx y ∈ lw_all) (h2 : Cond.instanceMethod y ∈ lw_all) (h3 : Cond.selects C y y ∈ lw_all) (h4 : Cond.initialized C ∈ lw_all) (h5 : Cond.code y b L r ∈ lw_all) : GoodIn lw_all (wsV own idx C y (ws_ y b L r)) := by
  refine lw_app ?_ (lw_meth h5)
  intro w hw
  simp only [List.mem_cons, List.not_mem_nil, or_false] at hw
  rcases hw with e | e | e | e
  · rw [e]; exact h1
  · rw [e]; exact h2
  · rw [e]; exact h3
  · rw [e]; exact h4
/-- what a static call asks: va_cwS n hts (lw_S ..) -/
theorem lw_S {own : String} {idx : Nat} {y : MethodName} {b : ByteArray} {L : Nat} {r : Option FieldType} (h1 : Cond.methodLink own idx y ∈ lw_all) (h2 : Cond.static y ∈ lw_all) (h3 : Cond.initialized y.cls ∈ lw_all) (h4 : Cond.code y b L r ∈ lw_all) : GoodIn lw_all (va_wsS own idx y (ws_ y b L r)) := by
  refine lw_app ?_ (lw_meth h4)
  intro w hw
  simp only [List.mem_cons, List.not_mem_nil, or_false] at hw
  rcases hw with e | e | e
  · rw [e]; exact h1
  · rw [e]; exact h2
  · rw [e]; exact h3
/-- the words of a contract for a method WITH HANDLERS (hh: its table) -/
abbrev wsW_ (y : MethodName) (b : ByteArray) (L : Nat) (r : Option FieldType) (hh : List (Nat × Nat × Nat × Nat)) : List Cond := Cond.codeWith y b L r hh :: lw_all
theorem lw_methW {y : MethodName} {b : ByteArray} {L : Nat} {r : Option FieldType} {hh : List (Nat × Nat × Nat × Nat)} (h : Cond.codeWith y b L r hh ∈ lw_all) : GoodIn lw_all (wsW_ y b L r hh) := by
  intro w hw
  rcases List.mem_cons.mp hw with e | e
  · rw [e]
    exact lw_self _ h
  · exact lw_self _ e
/-- any list of words by their places (lw_in), good -/
theorem lw_good {ws : List Cond} (h : ∀ w ∈ ws, w ∈ lw_all) : GoodIn lw_all ws := fun w hw => lw_self w (h w hw)
/-- what a call of a method with handlers asks: vx_cwVW n hts (lw_VW ..), vx_cwSW n hts (lw_SW ..) -/
theorem lw_VW {own : String} {idx : Nat} {C : String} {y : MethodName} {b : ByteArray} {L : Nat} {r : Option FieldType} {hh : List (Nat × Nat × Nat × Nat)} (h1 : Cond.methodLink own idx y ∈ lw_all) (h2 : Cond.instanceMethod y ∈ lw_all) (h3 : Cond.selects C y y ∈ lw_all) (h4 : Cond.initialized C ∈ lw_all) (h5 : Cond.codeWith y b L r hh ∈ lw_all) : GoodIn lw_all (wsV own idx C y (wsW_ y b L r hh)) := by
  refine lw_app ?_ (lw_methW h5)
  intro w hw
  simp only [List.mem_cons, List.not_mem_nil, or_false] at hw
  rcases hw with e | e | e | e
  · rw [e]; exact h1
  · rw [e]; exact h2
  · rw [e]; exact h3
  · rw [e]; exact h4
theorem lw_SW {own : String} {idx : Nat} {y : MethodName} {b : ByteArray} {L : Nat} {r : Option FieldType} {hh : List (Nat × Nat × Nat × Nat)} (h1 : Cond.methodLink own idx y ∈ lw_all) (h2 : Cond.static y ∈ lw_all) (h3 : Cond.initialized y.cls ∈ lw_all) (h4 : Cond.codeWith y b L r hh ∈ lw_all) : GoodIn lw_all (va_wsS own idx y (wsW_ y b L r hh)) := by
  refine lw_app ?_ (lw_methW h4)
  intro w hw
  simp only [List.mem_cons, List.not_mem_nil, or_false] at hw
  rcases hw with e | e | e
  · rw [e]; exact h1
  · rw [e]; exact h2
  · rw [e]; exact h3
/-- a word by its place in its run of the tables -/
theorem lw_at {r : List Cond} (hr : ∀ w ∈ r, w ∈ lw_tbl) {w : Cond} (i : Nat) (h : r[i]? = some w) : w ∈ lw_tbl := hr w (List.mem_of_getElem? h)
theorem lw_g {w : Cond} (h : w ∈ lw_tbl) (g : goodWord w = true) : w ∈ lw_all := List.mem_filter.mpr ⟨h, g⟩
theorem lw_ms : ∀ w ∈ k2_sels lw_privs, w ∈ lw_tbl := fun w h => show w ∈ k2_sels lw_privs ++ tables_1 from List.mem_append_left _ h
theorem lw_m0 : ∀ w ∈ tables_1, w ∈ lw_tbl := fun w h => show w ∈ k2_sels lw_privs ++ tables_1 from List.mem_append_right (k2_sels lw_privs) h
theorem qs0 : (Cond.selects "Field283" ⟨"Field283", "twice", "()V"⟩ ⟨"Field283", "twice", "()V"⟩) ∈ lw_all := lw_g (lw_at lw_ms 0 rfl) rfl
theorem qs1 : (Cond.selects "Field283" ⟨"Field283", "reduce", "()V"⟩ ⟨"Field283", "reduce", "()V"⟩) ∈ lw_all := lw_g (lw_at lw_ms 1 rfl) rfl
theorem qs2 : (Cond.selects "Field283" ⟨"Field283", "set", "(I)V"⟩ ⟨"Field283", "set", "(I)V"⟩) ∈ lw_all := lw_g (lw_at lw_ms 2 rfl) rfl
theorem qs3 : (Cond.selects "Field283" ⟨"Field283", "get", "([JI)V"⟩ ⟨"Field283", "get", "([JI)V"⟩) ∈ lw_all := lw_g (lw_at lw_ms 3 rfl) rfl
theorem qs4 : (Cond.selects "Field283" ⟨"Field283", "times", "([J)V"⟩ ⟨"Field283", "times", "([J)V"⟩) ∈ lw_all := lw_g (lw_at lw_ms 4 rfl) rfl
theorem qs5 : (Cond.selects "Field283" ⟨"Field283", "often", "(I)V"⟩ ⟨"Field283", "often", "(I)V"⟩) ∈ lw_all := lw_g (lw_at lw_ms 5 rfl) rfl
theorem qs6 : (Cond.selects "Field283Model" ⟨"Field283Model", "give", "(I[J)V"⟩ ⟨"Field283Model", "give", "(I[J)V"⟩) ∈ lw_all := lw_g (lw_at lw_ms 6 rfl) rfl
theorem qs7 : (Cond.selects "Field283Model" ⟨"Field283Model", "take", "([JI)V"⟩ ⟨"Field283Model", "take", "([JI)V"⟩) ∈ lw_all := lw_g (lw_at lw_ms 7 rfl) rfl
theorem qs8 : (Cond.selects "Field283Model" ⟨"Field283Model", "times", "([J[J)V"⟩ ⟨"Field283Model", "times", "([J[J)V"⟩) ∈ lw_all := lw_g (lw_at lw_ms 8 rfl) rfl
theorem qs9 : (Cond.selects "Field283Model" ⟨"Field283Model", "copy", "([J[J)V"⟩ ⟨"Field283Model", "copy", "([J[J)V"⟩) ∈ lw_all := lw_g (lw_at lw_ms 9 rfl) rfl
end
section
set_option maxRecDepth 100000
/-! Field283 -/
def RX0 : String := "Field283"
def TX0 : u_T := fun k => match k with
  | 0 => ("Field283", "register", "[J", true)
  | 1 => ("Field283", "line", "[J", true)
  | 2 => ("Field283", "wide", "[J", true)
  | 3 => ("Field283", "a", "[J", true)
  | 4 => ("Field283", "b", "[J", true)
  | 5 => ("Field283", "c", "[J", true)
  | _ => ("Field283", "rootOfX", "[J", true)
def tyX0 : Nat → FieldType := fun k => match k with
  | 0 => .array .long
  | 1 => .array .long
  | 2 => .array .long
  | 3 => .array .long
  | 4 => .array .long
  | 5 => .array .long
  | _ => .array .long
abbrev wsX00 : List Cond := u_ws RX0 TX0 7
theorem nmX0 : ∀ a, a < 7 → ∀ b, b < 7 → a ≠ b → (TX0 a).2.1 ≠ (TX0 b).2.1 := by decide +kernel
theorem tyX0_ok : ∀ k, k < 7 → parseFieldDescriptor (TX0 k).2.2.1 = some (tyX0 k) := by decide +kernel
abbrev cX0_init : ByteArray := prog_1_method_1_code
def yX0_init : MethodName := ⟨RX0, "<init>", "()V"⟩
theorem dX0_init_0 : decode cX0_init 0 = .ok (.aload_n 0, 1) := by decide +kernel
theorem dX0_init_1 : decode cX0_init 1 = .ok (.invokespecial 1, 3) := by decide +kernel
theorem dX0_init_4 : decode cX0_init 4 = .ok (.aload_n 0, 1) := by decide +kernel
theorem dX0_init_5 : decode cX0_init 5 = .ok (.bipush 20, 2) := by decide +kernel
theorem dX0_init_7 : decode cX0_init 7 = .ok (.newarray .long, 2) := by decide +kernel
theorem dX0_init_9 : decode cX0_init 9 = .ok (.putfield 7, 3) := by decide +kernel
theorem dX0_init_12 : decode cX0_init 12 = .ok (.aload_n 0, 1) := by decide +kernel
theorem dX0_init_13 : decode cX0_init 13 = .ok (.iconst 5, 1) := by decide +kernel
theorem dX0_init_14 : decode cX0_init 14 = .ok (.newarray .long, 2) := by decide +kernel
theorem dX0_init_16 : decode cX0_init 16 = .ok (.putfield 13, 3) := by decide +kernel
theorem dX0_init_19 : decode cX0_init 19 = .ok (.aload_n 0, 1) := by decide +kernel
theorem dX0_init_20 : decode cX0_init 20 = .ok (.bipush 10, 2) := by decide +kernel
theorem dX0_init_22 : decode cX0_init 22 = .ok (.newarray .long, 2) := by decide +kernel
theorem dX0_init_24 : decode cX0_init 24 = .ok (.putfield 16, 3) := by decide +kernel
theorem dX0_init_27 : decode cX0_init 27 = .ok (.aload_n 0, 1) := by decide +kernel
theorem dX0_init_28 : decode cX0_init 28 = .ok (.iconst 5, 1) := by decide +kernel
theorem dX0_init_29 : decode cX0_init 29 = .ok (.newarray .long, 2) := by decide +kernel
theorem dX0_init_31 : decode cX0_init 31 = .ok (.putfield 19, 3) := by decide +kernel
theorem dX0_init_34 : decode cX0_init 34 = .ok (.aload_n 0, 1) := by decide +kernel
theorem dX0_init_35 : decode cX0_init 35 = .ok (.iconst 5, 1) := by decide +kernel
theorem dX0_init_36 : decode cX0_init 36 = .ok (.newarray .long, 2) := by decide +kernel
theorem dX0_init_38 : decode cX0_init 38 = .ok (.putfield 22, 3) := by decide +kernel
theorem dX0_init_41 : decode cX0_init 41 = .ok (.aload_n 0, 1) := by decide +kernel
theorem dX0_init_42 : decode cX0_init 42 = .ok (.iconst 5, 1) := by decide +kernel
theorem dX0_init_43 : decode cX0_init 43 = .ok (.newarray .long, 2) := by decide +kernel
theorem dX0_init_45 : decode cX0_init 45 = .ok (.putfield 25, 3) := by decide +kernel
theorem dX0_init_48 : decode cX0_init 48 = .ok (.aload_n 0, 1) := by decide +kernel
theorem dX0_init_49 : decode cX0_init 49 = .ok (.iconst 5, 1) := by decide +kernel
theorem dX0_init_50 : decode cX0_init 50 = .ok (.newarray .long, 2) := by decide +kernel
theorem dX0_init_52 : decode cX0_init 52 = .ok (.putfield 28, 3) := by decide +kernel
theorem dX0_init_55 : decode cX0_init 55 = .ok (.aload_n 0, 1) := by decide +kernel
theorem dX0_init_56 : decode cX0_init 56 = .ok (.getfield 19, 3) := by decide +kernel
theorem dX0_init_59 : decode cX0_init 59 = .ok (.iconst 0, 1) := by decide +kernel
theorem dX0_init_60 : decode cX0_init 60 = .ok (.ldc2_w 31, 3) := by decide +kernel
theorem dX0_init_63 : decode cX0_init 63 = .ok (.lastore, 1) := by decide +kernel
theorem dX0_init_64 : decode cX0_init 64 = .ok (.iconst 1, 1) := by decide +kernel
theorem dX0_init_65 : decode cX0_init 65 = .ok (.istore_n 1, 1) := by decide +kernel
theorem dX0_init_66 : decode cX0_init 66 = .ok (.iload_n 1, 1) := by decide +kernel
theorem dX0_init_67 : decode cX0_init 67 = .ok (.sipush 283, 3) := by decide +kernel
theorem dX0_init_70 : decode cX0_init 70 = .ok (.if_icmp .ge 13, 3) := by decide +kernel
theorem dX0_init_73 : decode cX0_init 73 = .ok (.aload_n 0, 1) := by decide +kernel
theorem dX0_init_74 : decode cX0_init 74 = .ok (.invokevirtual 33, 3) := by decide +kernel
theorem dX0_init_77 : decode cX0_init 77 = .ok (.iinc 1 1, 3) := by decide +kernel
theorem dX0_init_80 : decode cX0_init 80 = .ok (.goto (-14), 3) := by decide +kernel
theorem dX0_init_83 : decode cX0_init 83 = .ok (.iconst 0, 1) := by decide +kernel
theorem dX0_init_84 : decode cX0_init 84 = .ok (.istore_n 1, 1) := by decide +kernel
theorem dX0_init_85 : decode cX0_init 85 = .ok (.iload_n 1, 1) := by decide +kernel
theorem dX0_init_86 : decode cX0_init 86 = .ok (.iconst 5, 1) := by decide +kernel
theorem dX0_init_87 : decode cX0_init 87 = .ok (.if_icmp .ge 21, 3) := by decide +kernel
theorem dX0_init_90 : decode cX0_init 90 = .ok (.aload_n 0, 1) := by decide +kernel
theorem dX0_init_91 : decode cX0_init 91 = .ok (.getfield 28, 3) := by decide +kernel
theorem dX0_init_94 : decode cX0_init 94 = .ok (.iload_n 1, 1) := by decide +kernel
theorem dX0_init_95 : decode cX0_init 95 = .ok (.aload_n 0, 1) := by decide +kernel
theorem dX0_init_96 : decode cX0_init 96 = .ok (.getfield 19, 3) := by decide +kernel
theorem dX0_init_99 : decode cX0_init 99 = .ok (.iload_n 1, 1) := by decide +kernel
theorem dX0_init_100 : decode cX0_init 100 = .ok (.laload, 1) := by decide +kernel
theorem dX0_init_101 : decode cX0_init 101 = .ok (.lastore, 1) := by decide +kernel
theorem dX0_init_102 : decode cX0_init 102 = .ok (.iinc 1 1, 3) := by decide +kernel
theorem dX0_init_105 : decode cX0_init 105 = .ok (.goto (-20), 3) := by decide +kernel
theorem dX0_init_108 : decode cX0_init 108 = .ok (.return_, 1) := by decide +kernel
abbrev cX0_twice : ByteArray := prog_1_method_12_code
def yX0_twice : MethodName := ⟨RX0, "twice", "()V"⟩
theorem dX0_twice_0 : decode cX0_twice 0 = .ok (.iconst 0, 1) := by decide +kernel
theorem dX0_twice_1 : decode cX0_twice 1 = .ok (.istore_n 1, 1) := by decide +kernel
theorem dX0_twice_2 : decode cX0_twice 2 = .ok (.iload_n 1, 1) := by decide +kernel
theorem dX0_twice_3 : decode cX0_twice 3 = .ok (.iconst 5, 1) := by decide +kernel
theorem dX0_twice_4 : decode cX0_twice 4 = .ok (.if_icmp .ge 48, 3) := by decide +kernel
theorem dX0_twice_7 : decode cX0_twice 7 = .ok (.aload_n 0, 1) := by decide +kernel
theorem dX0_twice_8 : decode cX0_twice 8 = .ok (.getfield 16, 3) := by decide +kernel
theorem dX0_twice_11 : decode cX0_twice 11 = .ok (.iconst 2, 1) := by decide +kernel
theorem dX0_twice_12 : decode cX0_twice 12 = .ok (.iload_n 1, 1) := by decide +kernel
theorem dX0_twice_13 : decode cX0_twice 13 = .ok (.imul, 1) := by decide +kernel
theorem dX0_twice_14 : decode cX0_twice 14 = .ok (.aload_n 0, 1) := by decide +kernel
theorem dX0_twice_15 : decode cX0_twice 15 = .ok (.getfield 19, 3) := by decide +kernel
theorem dX0_twice_18 : decode cX0_twice 18 = .ok (.iload_n 1, 1) := by decide +kernel
theorem dX0_twice_19 : decode cX0_twice 19 = .ok (.laload, 1) := by decide +kernel
theorem dX0_twice_20 : decode cX0_twice 20 = .ok (.invokestatic 69, 3) := by decide +kernel
theorem dX0_twice_23 : decode cX0_twice 23 = .ok (.lastore, 1) := by decide +kernel
theorem dX0_twice_24 : decode cX0_twice 24 = .ok (.aload_n 0, 1) := by decide +kernel
theorem dX0_twice_25 : decode cX0_twice 25 = .ok (.getfield 16, 3) := by decide +kernel
theorem dX0_twice_28 : decode cX0_twice 28 = .ok (.iconst 2, 1) := by decide +kernel
theorem dX0_twice_29 : decode cX0_twice 29 = .ok (.iload_n 1, 1) := by decide +kernel
theorem dX0_twice_30 : decode cX0_twice 30 = .ok (.imul, 1) := by decide +kernel
theorem dX0_twice_31 : decode cX0_twice 31 = .ok (.iconst 1, 1) := by decide +kernel
theorem dX0_twice_32 : decode cX0_twice 32 = .ok (.iadd, 1) := by decide +kernel
theorem dX0_twice_33 : decode cX0_twice 33 = .ok (.aload_n 0, 1) := by decide +kernel
theorem dX0_twice_34 : decode cX0_twice 34 = .ok (.getfield 19, 3) := by decide +kernel
theorem dX0_twice_37 : decode cX0_twice 37 = .ok (.iload_n 1, 1) := by decide +kernel
theorem dX0_twice_38 : decode cX0_twice 38 = .ok (.laload, 1) := by decide +kernel
theorem dX0_twice_39 : decode cX0_twice 39 = .ok (.bipush 32, 2) := by decide +kernel
theorem dX0_twice_41 : decode cX0_twice 41 = .ok (.lushr, 1) := by decide +kernel
theorem dX0_twice_42 : decode cX0_twice 42 = .ok (.invokestatic 69, 3) := by decide +kernel
theorem dX0_twice_45 : decode cX0_twice 45 = .ok (.lastore, 1) := by decide +kernel
theorem dX0_twice_46 : decode cX0_twice 46 = .ok (.iinc 1 1, 3) := by decide +kernel
theorem dX0_twice_49 : decode cX0_twice 49 = .ok (.goto (-47), 3) := by decide +kernel
theorem dX0_twice_52 : decode cX0_twice 52 = .ok (.aload_n 0, 1) := by decide +kernel
theorem dX0_twice_53 : decode cX0_twice 53 = .ok (.invokevirtual 54, 3) := by decide +kernel
theorem dX0_twice_56 : decode cX0_twice 56 = .ok (.return_, 1) := by decide +kernel
abbrev cX0_spread : ByteArray := prog_1_method_10_code
def yX0_spread : MethodName := ⟨RX0, "spread", "(J)J"⟩
theorem dX0_spread_0 : decode cX0_spread 0 = .ok (.lload_n 0, 1) := by decide +kernel
theorem dX0_spread_1 : decode cX0_spread 1 = .ok (.ldc2_w 40, 3) := by decide +kernel
theorem dX0_spread_4 : decode cX0_spread 4 = .ok (.land, 1) := by decide +kernel
theorem dX0_spread_5 : decode cX0_spread 5 = .ok (.lstore_n 2, 1) := by decide +kernel
theorem dX0_spread_6 : decode cX0_spread 6 = .ok (.lload_n 2, 1) := by decide +kernel
theorem dX0_spread_7 : decode cX0_spread 7 = .ok (.lload_n 2, 1) := by decide +kernel
theorem dX0_spread_8 : decode cX0_spread 8 = .ok (.bipush 16, 2) := by decide +kernel
theorem dX0_spread_10 : decode cX0_spread 10 = .ok (.lshl, 1) := by decide +kernel
theorem dX0_spread_11 : decode cX0_spread 11 = .ok (.lor, 1) := by decide +kernel
theorem dX0_spread_12 : decode cX0_spread 12 = .ok (.ldc2_w 59, 3) := by decide +kernel
theorem dX0_spread_15 : decode cX0_spread 15 = .ok (.land, 1) := by decide +kernel
theorem dX0_spread_16 : decode cX0_spread 16 = .ok (.lstore_n 2, 1) := by decide +kernel
theorem dX0_spread_17 : decode cX0_spread 17 = .ok (.lload_n 2, 1) := by decide +kernel
theorem dX0_spread_18 : decode cX0_spread 18 = .ok (.lload_n 2, 1) := by decide +kernel
theorem dX0_spread_19 : decode cX0_spread 19 = .ok (.bipush 8, 2) := by decide +kernel
theorem dX0_spread_21 : decode cX0_spread 21 = .ok (.lshl, 1) := by decide +kernel
theorem dX0_spread_22 : decode cX0_spread 22 = .ok (.lor, 1) := by decide +kernel
theorem dX0_spread_23 : decode cX0_spread 23 = .ok (.ldc2_w 61, 3) := by decide +kernel
theorem dX0_spread_26 : decode cX0_spread 26 = .ok (.land, 1) := by decide +kernel
theorem dX0_spread_27 : decode cX0_spread 27 = .ok (.lstore_n 2, 1) := by decide +kernel
theorem dX0_spread_28 : decode cX0_spread 28 = .ok (.lload_n 2, 1) := by decide +kernel
theorem dX0_spread_29 : decode cX0_spread 29 = .ok (.lload_n 2, 1) := by decide +kernel
theorem dX0_spread_30 : decode cX0_spread 30 = .ok (.iconst 4, 1) := by decide +kernel
theorem dX0_spread_31 : decode cX0_spread 31 = .ok (.lshl, 1) := by decide +kernel
theorem dX0_spread_32 : decode cX0_spread 32 = .ok (.lor, 1) := by decide +kernel
theorem dX0_spread_33 : decode cX0_spread 33 = .ok (.ldc2_w 63, 3) := by decide +kernel
theorem dX0_spread_36 : decode cX0_spread 36 = .ok (.land, 1) := by decide +kernel
theorem dX0_spread_37 : decode cX0_spread 37 = .ok (.lstore_n 2, 1) := by decide +kernel
theorem dX0_spread_38 : decode cX0_spread 38 = .ok (.lload_n 2, 1) := by decide +kernel
theorem dX0_spread_39 : decode cX0_spread 39 = .ok (.lload_n 2, 1) := by decide +kernel
theorem dX0_spread_40 : decode cX0_spread 40 = .ok (.iconst 2, 1) := by decide +kernel
theorem dX0_spread_41 : decode cX0_spread 41 = .ok (.lshl, 1) := by decide +kernel
theorem dX0_spread_42 : decode cX0_spread 42 = .ok (.lor, 1) := by decide +kernel
theorem dX0_spread_43 : decode cX0_spread 43 = .ok (.ldc2_w 65, 3) := by decide +kernel
theorem dX0_spread_46 : decode cX0_spread 46 = .ok (.land, 1) := by decide +kernel
theorem dX0_spread_47 : decode cX0_spread 47 = .ok (.lstore_n 2, 1) := by decide +kernel
theorem dX0_spread_48 : decode cX0_spread 48 = .ok (.lload_n 2, 1) := by decide +kernel
theorem dX0_spread_49 : decode cX0_spread 49 = .ok (.lload_n 2, 1) := by decide +kernel
theorem dX0_spread_50 : decode cX0_spread 50 = .ok (.iconst 1, 1) := by decide +kernel
theorem dX0_spread_51 : decode cX0_spread 51 = .ok (.lshl, 1) := by decide +kernel
theorem dX0_spread_52 : decode cX0_spread 52 = .ok (.lor, 1) := by decide +kernel
theorem dX0_spread_53 : decode cX0_spread 53 = .ok (.ldc2_w 67, 3) := by decide +kernel
theorem dX0_spread_56 : decode cX0_spread 56 = .ok (.land, 1) := by decide +kernel
theorem dX0_spread_57 : decode cX0_spread 57 = .ok (.lreturn, 1) := by decide +kernel
abbrev cX0_reduce : ByteArray := prog_1_method_9_code
def yX0_reduce : MethodName := ⟨RX0, "reduce", "()V"⟩
theorem dX0_reduce_0 : decode cX0_reduce 0 = .ok (.bipush 9, 2) := by decide +kernel
theorem dX0_reduce_2 : decode cX0_reduce 2 = .ok (.istore_n 1, 1) := by decide +kernel
theorem dX0_reduce_3 : decode cX0_reduce 3 = .ok (.iload_n 1, 1) := by decide +kernel
theorem dX0_reduce_4 : decode cX0_reduce 4 = .ok (.iconst 5, 1) := by decide +kernel
theorem dX0_reduce_5 : decode cX0_reduce 5 = .ok (.if_icmp .lt 76, 3) := by decide +kernel
theorem dX0_reduce_8 : decode cX0_reduce 8 = .ok (.aload_n 0, 1) := by decide +kernel
theorem dX0_reduce_9 : decode cX0_reduce 9 = .ok (.getfield 16, 3) := by decide +kernel
theorem dX0_reduce_12 : decode cX0_reduce 12 = .ok (.iload_n 1, 1) := by decide +kernel
theorem dX0_reduce_13 : decode cX0_reduce 13 = .ok (.laload, 1) := by decide +kernel
theorem dX0_reduce_14 : decode cX0_reduce 14 = .ok (.lstore_n 2, 1) := by decide +kernel
theorem dX0_reduce_15 : decode cX0_reduce 15 = .ok (.aload_n 0, 1) := by decide +kernel
theorem dX0_reduce_16 : decode cX0_reduce 16 = .ok (.getfield 16, 3) := by decide +kernel
theorem dX0_reduce_19 : decode cX0_reduce 19 = .ok (.iload_n 1, 1) := by decide +kernel
theorem dX0_reduce_20 : decode cX0_reduce 20 = .ok (.iconst 5, 1) := by decide +kernel
theorem dX0_reduce_21 : decode cX0_reduce 21 = .ok (.isub, 1) := by decide +kernel
theorem dX0_reduce_22 : decode cX0_reduce 22 = .ok (.dup2, 1) := by decide +kernel
theorem dX0_reduce_23 : decode cX0_reduce 23 = .ok (.laload, 1) := by decide +kernel
theorem dX0_reduce_24 : decode cX0_reduce 24 = .ok (.lload_n 2, 1) := by decide +kernel
theorem dX0_reduce_25 : decode cX0_reduce 25 = .ok (.bipush 37, 2) := by decide +kernel
theorem dX0_reduce_27 : decode cX0_reduce 27 = .ok (.lshl, 1) := by decide +kernel
theorem dX0_reduce_28 : decode cX0_reduce 28 = .ok (.lload_n 2, 1) := by decide +kernel
theorem dX0_reduce_29 : decode cX0_reduce 29 = .ok (.bipush 42, 2) := by decide +kernel
theorem dX0_reduce_31 : decode cX0_reduce 31 = .ok (.lshl, 1) := by decide +kernel
theorem dX0_reduce_32 : decode cX0_reduce 32 = .ok (.lxor, 1) := by decide +kernel
theorem dX0_reduce_33 : decode cX0_reduce 33 = .ok (.lload_n 2, 1) := by decide +kernel
theorem dX0_reduce_34 : decode cX0_reduce 34 = .ok (.bipush 44, 2) := by decide +kernel
theorem dX0_reduce_36 : decode cX0_reduce 36 = .ok (.lshl, 1) := by decide +kernel
theorem dX0_reduce_37 : decode cX0_reduce 37 = .ok (.lxor, 1) := by decide +kernel
theorem dX0_reduce_38 : decode cX0_reduce 38 = .ok (.lload_n 2, 1) := by decide +kernel
theorem dX0_reduce_39 : decode cX0_reduce 39 = .ok (.bipush 49, 2) := by decide +kernel
theorem dX0_reduce_41 : decode cX0_reduce 41 = .ok (.lshl, 1) := by decide +kernel
theorem dX0_reduce_42 : decode cX0_reduce 42 = .ok (.lxor, 1) := by decide +kernel
theorem dX0_reduce_43 : decode cX0_reduce 43 = .ok (.lxor, 1) := by decide +kernel
theorem dX0_reduce_44 : decode cX0_reduce 44 = .ok (.lastore, 1) := by decide +kernel
theorem dX0_reduce_45 : decode cX0_reduce 45 = .ok (.aload_n 0, 1) := by decide +kernel
theorem dX0_reduce_46 : decode cX0_reduce 46 = .ok (.getfield 16, 3) := by decide +kernel
theorem dX0_reduce_49 : decode cX0_reduce 49 = .ok (.iload_n 1, 1) := by decide +kernel
theorem dX0_reduce_50 : decode cX0_reduce 50 = .ok (.iconst 4, 1) := by decide +kernel
theorem dX0_reduce_51 : decode cX0_reduce 51 = .ok (.isub, 1) := by decide +kernel
theorem dX0_reduce_52 : decode cX0_reduce 52 = .ok (.dup2, 1) := by decide +kernel
theorem dX0_reduce_53 : decode cX0_reduce 53 = .ok (.laload, 1) := by decide +kernel
theorem dX0_reduce_54 : decode cX0_reduce 54 = .ok (.lload_n 2, 1) := by decide +kernel
theorem dX0_reduce_55 : decode cX0_reduce 55 = .ok (.bipush 27, 2) := by decide +kernel
theorem dX0_reduce_57 : decode cX0_reduce 57 = .ok (.lushr, 1) := by decide +kernel
theorem dX0_reduce_58 : decode cX0_reduce 58 = .ok (.lload_n 2, 1) := by decide +kernel
theorem dX0_reduce_59 : decode cX0_reduce 59 = .ok (.bipush 22, 2) := by decide +kernel
theorem dX0_reduce_61 : decode cX0_reduce 61 = .ok (.lushr, 1) := by decide +kernel
theorem dX0_reduce_62 : decode cX0_reduce 62 = .ok (.lxor, 1) := by decide +kernel
theorem dX0_reduce_63 : decode cX0_reduce 63 = .ok (.lload_n 2, 1) := by decide +kernel
theorem dX0_reduce_64 : decode cX0_reduce 64 = .ok (.bipush 20, 2) := by decide +kernel
theorem dX0_reduce_66 : decode cX0_reduce 66 = .ok (.lushr, 1) := by decide +kernel
theorem dX0_reduce_67 : decode cX0_reduce 67 = .ok (.lxor, 1) := by decide +kernel
theorem dX0_reduce_68 : decode cX0_reduce 68 = .ok (.lload_n 2, 1) := by decide +kernel
theorem dX0_reduce_69 : decode cX0_reduce 69 = .ok (.bipush 15, 2) := by decide +kernel
theorem dX0_reduce_71 : decode cX0_reduce 71 = .ok (.lushr, 1) := by decide +kernel
theorem dX0_reduce_72 : decode cX0_reduce 72 = .ok (.lxor, 1) := by decide +kernel
theorem dX0_reduce_73 : decode cX0_reduce 73 = .ok (.lxor, 1) := by decide +kernel
theorem dX0_reduce_74 : decode cX0_reduce 74 = .ok (.lastore, 1) := by decide +kernel
theorem dX0_reduce_75 : decode cX0_reduce 75 = .ok (.iinc 1 (-1), 3) := by decide +kernel
theorem dX0_reduce_78 : decode cX0_reduce 78 = .ok (.goto (-75), 3) := by decide +kernel
theorem dX0_reduce_81 : decode cX0_reduce 81 = .ok (.aload_n 0, 1) := by decide +kernel
theorem dX0_reduce_82 : decode cX0_reduce 82 = .ok (.getfield 16, 3) := by decide +kernel
theorem dX0_reduce_85 : decode cX0_reduce 85 = .ok (.iconst 4, 1) := by decide +kernel
theorem dX0_reduce_86 : decode cX0_reduce 86 = .ok (.laload, 1) := by decide +kernel
theorem dX0_reduce_87 : decode cX0_reduce 87 = .ok (.bipush 27, 2) := by decide +kernel
theorem dX0_reduce_89 : decode cX0_reduce 89 = .ok (.lushr, 1) := by decide +kernel
theorem dX0_reduce_90 : decode cX0_reduce 90 = .ok (.lstore_n 1, 1) := by decide +kernel
theorem dX0_reduce_91 : decode cX0_reduce 91 = .ok (.aload_n 0, 1) := by decide +kernel
theorem dX0_reduce_92 : decode cX0_reduce 92 = .ok (.getfield 16, 3) := by decide +kernel
theorem dX0_reduce_95 : decode cX0_reduce 95 = .ok (.iconst 0, 1) := by decide +kernel
theorem dX0_reduce_96 : decode cX0_reduce 96 = .ok (.dup2, 1) := by decide +kernel
theorem dX0_reduce_97 : decode cX0_reduce 97 = .ok (.laload, 1) := by decide +kernel
theorem dX0_reduce_98 : decode cX0_reduce 98 = .ok (.lload_n 1, 1) := by decide +kernel
theorem dX0_reduce_99 : decode cX0_reduce 99 = .ok (.lload_n 1, 1) := by decide +kernel
theorem dX0_reduce_100 : decode cX0_reduce 100 = .ok (.iconst 5, 1) := by decide +kernel
theorem dX0_reduce_101 : decode cX0_reduce 101 = .ok (.lshl, 1) := by decide +kernel
theorem dX0_reduce_102 : decode cX0_reduce 102 = .ok (.lxor, 1) := by decide +kernel
theorem dX0_reduce_103 : decode cX0_reduce 103 = .ok (.lload_n 1, 1) := by decide +kernel
theorem dX0_reduce_104 : decode cX0_reduce 104 = .ok (.bipush 7, 2) := by decide +kernel
theorem dX0_reduce_106 : decode cX0_reduce 106 = .ok (.lshl, 1) := by decide +kernel
theorem dX0_reduce_107 : decode cX0_reduce 107 = .ok (.lxor, 1) := by decide +kernel
theorem dX0_reduce_108 : decode cX0_reduce 108 = .ok (.lload_n 1, 1) := by decide +kernel
theorem dX0_reduce_109 : decode cX0_reduce 109 = .ok (.bipush 12, 2) := by decide +kernel
theorem dX0_reduce_111 : decode cX0_reduce 111 = .ok (.lshl, 1) := by decide +kernel
theorem dX0_reduce_112 : decode cX0_reduce 112 = .ok (.lxor, 1) := by decide +kernel
theorem dX0_reduce_113 : decode cX0_reduce 113 = .ok (.lxor, 1) := by decide +kernel
theorem dX0_reduce_114 : decode cX0_reduce 114 = .ok (.lastore, 1) := by decide +kernel
theorem dX0_reduce_115 : decode cX0_reduce 115 = .ok (.aload_n 0, 1) := by decide +kernel
theorem dX0_reduce_116 : decode cX0_reduce 116 = .ok (.getfield 16, 3) := by decide +kernel
theorem dX0_reduce_119 : decode cX0_reduce 119 = .ok (.iconst 4, 1) := by decide +kernel
theorem dX0_reduce_120 : decode cX0_reduce 120 = .ok (.dup2, 1) := by decide +kernel
theorem dX0_reduce_121 : decode cX0_reduce 121 = .ok (.laload, 1) := by decide +kernel
theorem dX0_reduce_122 : decode cX0_reduce 122 = .ok (.ldc2_w 57, 3) := by decide +kernel
theorem dX0_reduce_125 : decode cX0_reduce 125 = .ok (.land, 1) := by decide +kernel
theorem dX0_reduce_126 : decode cX0_reduce 126 = .ok (.lastore, 1) := by decide +kernel
theorem dX0_reduce_127 : decode cX0_reduce 127 = .ok (.iconst 0, 1) := by decide +kernel
theorem dX0_reduce_128 : decode cX0_reduce 128 = .ok (.istore_n 3, 1) := by decide +kernel
theorem dX0_reduce_129 : decode cX0_reduce 129 = .ok (.iload_n 3, 1) := by decide +kernel
theorem dX0_reduce_130 : decode cX0_reduce 130 = .ok (.iconst 5, 1) := by decide +kernel
theorem dX0_reduce_131 : decode cX0_reduce 131 = .ok (.if_icmp .ge 21, 3) := by decide +kernel
theorem dX0_reduce_134 : decode cX0_reduce 134 = .ok (.aload_n 0, 1) := by decide +kernel
theorem dX0_reduce_135 : decode cX0_reduce 135 = .ok (.getfield 19, 3) := by decide +kernel
theorem dX0_reduce_138 : decode cX0_reduce 138 = .ok (.iload_n 3, 1) := by decide +kernel
theorem dX0_reduce_139 : decode cX0_reduce 139 = .ok (.aload_n 0, 1) := by decide +kernel
theorem dX0_reduce_140 : decode cX0_reduce 140 = .ok (.getfield 16, 3) := by decide +kernel
theorem dX0_reduce_143 : decode cX0_reduce 143 = .ok (.iload_n 3, 1) := by decide +kernel
theorem dX0_reduce_144 : decode cX0_reduce 144 = .ok (.laload, 1) := by decide +kernel
theorem dX0_reduce_145 : decode cX0_reduce 145 = .ok (.lastore, 1) := by decide +kernel
theorem dX0_reduce_146 : decode cX0_reduce 146 = .ok (.iinc 3 1, 3) := by decide +kernel
theorem dX0_reduce_149 : decode cX0_reduce 149 = .ok (.goto (-20), 3) := by decide +kernel
theorem dX0_reduce_152 : decode cX0_reduce 152 = .ok (.return_, 1) := by decide +kernel
abbrev cX0_line : ByteArray := prog_1_method_14_code
def yX0_line : MethodName := ⟨RX0, "line", "(IIIII)V"⟩
theorem dX0_line_0 : decode cX0_line 0 = .ok (.iload_n 1, 1) := by decide +kernel
theorem dX0_line_1 : decode cX0_line 1 = .ok (.ldc 72, 2) := by decide +kernel
theorem dX0_line_3 : decode cX0_line 3 = .ok (.iand, 1) := by decide +kernel
theorem dX0_line_4 : decode cX0_line 4 = .ok (.iconst 5, 1) := by decide +kernel
theorem dX0_line_5 : decode cX0_line 5 = .ok (.irem, 1) := by decide +kernel
theorem dX0_line_6 : decode cX0_line 6 = .ok (.istore 6, 2) := by decide +kernel
theorem dX0_line_8 : decode cX0_line 8 = .ok (.aload_n 0, 1) := by decide +kernel
theorem dX0_line_9 : decode cX0_line 9 = .ok (.getfield 13, 3) := by decide +kernel
theorem dX0_line_12 : decode cX0_line 12 = .ok (.iload 6, 2) := by decide +kernel
theorem dX0_line_14 : decode cX0_line 14 = .ok (.iload_n 2, 1) := by decide +kernel
theorem dX0_line_15 : decode cX0_line 15 = .ok (.iload_n 3, 1) := by decide +kernel
theorem dX0_line_16 : decode cX0_line 16 = .ok (.invokestatic 73, 3) := by decide +kernel
theorem dX0_line_19 : decode cX0_line 19 = .ok (.lastore, 1) := by decide +kernel
theorem dX0_line_20 : decode cX0_line 20 = .ok (.aload_n 0, 1) := by decide +kernel
theorem dX0_line_21 : decode cX0_line 21 = .ok (.getfield 13, 3) := by decide +kernel
theorem dX0_line_24 : decode cX0_line 24 = .ok (.iload 6, 2) := by decide +kernel
theorem dX0_line_26 : decode cX0_line 26 = .ok (.iconst 1, 1) := by decide +kernel
theorem dX0_line_27 : decode cX0_line 27 = .ok (.iadd, 1) := by decide +kernel
theorem dX0_line_28 : decode cX0_line 28 = .ok (.iconst 5, 1) := by decide +kernel
theorem dX0_line_29 : decode cX0_line 29 = .ok (.irem, 1) := by decide +kernel
theorem dX0_line_30 : decode cX0_line 30 = .ok (.iload 4, 2) := by decide +kernel
theorem dX0_line_32 : decode cX0_line 32 = .ok (.iload 5, 2) := by decide +kernel
theorem dX0_line_34 : decode cX0_line 34 = .ok (.invokestatic 73, 3) := by decide +kernel
theorem dX0_line_37 : decode cX0_line 37 = .ok (.lastore, 1) := by decide +kernel
theorem dX0_line_38 : decode cX0_line 38 = .ok (.return_, 1) := by decide +kernel
abbrev cX0_both : ByteArray := prog_1_method_5_code
def yX0_both : MethodName := ⟨RX0, "both", "(II)J"⟩
theorem dX0_both_0 : decode cX0_both 0 = .ok (.iload_n 0, 1) := by decide +kernel
theorem dX0_both_1 : decode cX0_both 1 = .ok (.i2l, 1) := by decide +kernel
theorem dX0_both_2 : decode cX0_both 2 = .ok (.bipush 32, 2) := by decide +kernel
theorem dX0_both_4 : decode cX0_both 4 = .ok (.lshl, 1) := by decide +kernel
theorem dX0_both_5 : decode cX0_both 5 = .ok (.iload_n 1, 1) := by decide +kernel
theorem dX0_both_6 : decode cX0_both 6 = .ok (.i2l, 1) := by decide +kernel
theorem dX0_both_7 : decode cX0_both 7 = .ok (.ldc2_w 40, 3) := by decide +kernel
theorem dX0_both_10 : decode cX0_both 10 = .ok (.land, 1) := by decide +kernel
theorem dX0_both_11 : decode cX0_both 11 = .ok (.lor, 1) := by decide +kernel
theorem dX0_both_12 : decode cX0_both 12 = .ok (.lreturn, 1) := by decide +kernel
abbrev cX0_load : ByteArray := prog_1_method_15_code
def yX0_load : MethodName := ⟨RX0, "load", "(I)V"⟩
theorem dX0_load_0 : decode cX0_load 0 = .ok (.iconst 0, 1) := by decide +kernel
theorem dX0_load_1 : decode cX0_load 1 = .ok (.istore_n 2, 1) := by decide +kernel
theorem dX0_load_2 : decode cX0_load 2 = .ok (.iload_n 2, 1) := by decide +kernel
theorem dX0_load_3 : decode cX0_load 3 = .ok (.iconst 5, 1) := by decide +kernel
theorem dX0_load_4 : decode cX0_load 4 = .ok (.if_icmp .ge 21, 3) := by decide +kernel
theorem dX0_load_7 : decode cX0_load 7 = .ok (.aload_n 0, 1) := by decide +kernel
theorem dX0_load_8 : decode cX0_load 8 = .ok (.getfield 19, 3) := by decide +kernel
theorem dX0_load_11 : decode cX0_load 11 = .ok (.iload_n 2, 1) := by decide +kernel
theorem dX0_load_12 : decode cX0_load 12 = .ok (.aload_n 0, 1) := by decide +kernel
theorem dX0_load_13 : decode cX0_load 13 = .ok (.getfield 13, 3) := by decide +kernel
theorem dX0_load_16 : decode cX0_load 16 = .ok (.iload_n 2, 1) := by decide +kernel
theorem dX0_load_17 : decode cX0_load 17 = .ok (.laload, 1) := by decide +kernel
theorem dX0_load_18 : decode cX0_load 18 = .ok (.lastore, 1) := by decide +kernel
theorem dX0_load_19 : decode cX0_load 19 = .ok (.iinc 2 1, 3) := by decide +kernel
theorem dX0_load_22 : decode cX0_load 22 = .ok (.goto (-20), 3) := by decide +kernel
theorem dX0_load_25 : decode cX0_load 25 = .ok (.aload_n 0, 1) := by decide +kernel
theorem dX0_load_26 : decode cX0_load 26 = .ok (.getfield 19, 3) := by decide +kernel
theorem dX0_load_29 : decode cX0_load 29 = .ok (.iconst 4, 1) := by decide +kernel
theorem dX0_load_30 : decode cX0_load 30 = .ok (.dup2, 1) := by decide +kernel
theorem dX0_load_31 : decode cX0_load 31 = .ok (.laload, 1) := by decide +kernel
theorem dX0_load_32 : decode cX0_load 32 = .ok (.ldc2_w 57, 3) := by decide +kernel
theorem dX0_load_35 : decode cX0_load 35 = .ok (.land, 1) := by decide +kernel
theorem dX0_load_36 : decode cX0_load 36 = .ok (.lastore, 1) := by decide +kernel
theorem dX0_load_37 : decode cX0_load 37 = .ok (.aload_n 0, 1) := by decide +kernel
theorem dX0_load_38 : decode cX0_load 38 = .ok (.iload_n 1, 1) := by decide +kernel
theorem dX0_load_39 : decode cX0_load 39 = .ok (.invokevirtual 77, 3) := by decide +kernel
theorem dX0_load_42 : decode cX0_load 42 = .ok (.return_, 1) := by decide +kernel
abbrev cX0_set : ByteArray := prog_1_method_4_code
def yX0_set : MethodName := ⟨RX0, "set", "(I)V"⟩
theorem dX0_set_0 : decode cX0_set 0 = .ok (.iconst 0, 1) := by decide +kernel
theorem dX0_set_1 : decode cX0_set 1 = .ok (.istore_n 2, 1) := by decide +kernel
theorem dX0_set_2 : decode cX0_set 2 = .ok (.iload_n 2, 1) := by decide +kernel
theorem dX0_set_3 : decode cX0_set 3 = .ok (.iconst 5, 1) := by decide +kernel
theorem dX0_set_4 : decode cX0_set 4 = .ok (.if_icmp .ge 26, 3) := by decide +kernel
theorem dX0_set_7 : decode cX0_set 7 = .ok (.aload_n 0, 1) := by decide +kernel
theorem dX0_set_8 : decode cX0_set 8 = .ok (.getfield 7, 3) := by decide +kernel
theorem dX0_set_11 : decode cX0_set 11 = .ok (.iload_n 1, 1) := by decide +kernel
theorem dX0_set_12 : decode cX0_set 12 = .ok (.invokestatic 36, 3) := by decide +kernel
theorem dX0_set_15 : decode cX0_set 15 = .ok (.iload_n 2, 1) := by decide +kernel
theorem dX0_set_16 : decode cX0_set 16 = .ok (.iadd, 1) := by decide +kernel
theorem dX0_set_17 : decode cX0_set 17 = .ok (.aload_n 0, 1) := by decide +kernel
theorem dX0_set_18 : decode cX0_set 18 = .ok (.getfield 19, 3) := by decide +kernel
theorem dX0_set_21 : decode cX0_set 21 = .ok (.iload_n 2, 1) := by decide +kernel
theorem dX0_set_22 : decode cX0_set 22 = .ok (.laload, 1) := by decide +kernel
theorem dX0_set_23 : decode cX0_set 23 = .ok (.lastore, 1) := by decide +kernel
theorem dX0_set_24 : decode cX0_set 24 = .ok (.iinc 2 1, 3) := by decide +kernel
theorem dX0_set_27 : decode cX0_set 27 = .ok (.goto (-25), 3) := by decide +kernel
theorem dX0_set_30 : decode cX0_set 30 = .ok (.return_, 1) := by decide +kernel
end
section
set_option maxRecDepth 100000
abbrev cX0_at : ByteArray := prog_1_method_2_code
def yX0_at : MethodName := ⟨RX0, "at", "(I)I"⟩
theorem dX0_at_0 : decode cX0_at 0 = .ok (.iload_n 0, 1) := by decide +kernel
theorem dX0_at_1 : decode cX0_at 1 = .ok (.iconst 3, 1) := by decide +kernel
theorem dX0_at_2 : decode cX0_at 2 = .ok (.iand, 1) := by decide +kernel
theorem dX0_at_3 : decode cX0_at 3 = .ok (.iconst 5, 1) := by decide +kernel
theorem dX0_at_4 : decode cX0_at 4 = .ok (.imul, 1) := by decide +kernel
theorem dX0_at_5 : decode cX0_at 5 = .ok (.ireturn, 1) := by decide +kernel
abbrev cX0_word : ByteArray := prog_1_method_16_code
def yX0_word : MethodName := ⟨RX0, "word", "(II)I"⟩
theorem dX0_word_0 : decode cX0_word 0 = .ok (.aload_n 0, 1) := by decide +kernel
theorem dX0_word_1 : decode cX0_word 1 = .ok (.getfield 7, 3) := by decide +kernel
theorem dX0_word_4 : decode cX0_word 4 = .ok (.iload_n 1, 1) := by decide +kernel
theorem dX0_word_5 : decode cX0_word 5 = .ok (.invokestatic 36, 3) := by decide +kernel
theorem dX0_word_8 : decode cX0_word 8 = .ok (.iload_n 2, 1) := by decide +kernel
theorem dX0_word_9 : decode cX0_word 9 = .ok (.iconst 1, 1) := by decide +kernel
theorem dX0_word_10 : decode cX0_word 10 = .ok (.ishr, 1) := by decide +kernel
theorem dX0_word_11 : decode cX0_word 11 = .ok (.ldc 81, 2) := by decide +kernel
theorem dX0_word_13 : decode cX0_word 13 = .ok (.iand, 1) := by decide +kernel
theorem dX0_word_14 : decode cX0_word 14 = .ok (.iconst 5, 1) := by decide +kernel
theorem dX0_word_15 : decode cX0_word 15 = .ok (.irem, 1) := by decide +kernel
theorem dX0_word_16 : decode cX0_word 16 = .ok (.iadd, 1) := by decide +kernel
theorem dX0_word_17 : decode cX0_word 17 = .ok (.laload, 1) := by decide +kernel
theorem dX0_word_18 : decode cX0_word 18 = .ok (.lstore_n 3, 1) := by decide +kernel
theorem dX0_word_19 : decode cX0_word 19 = .ok (.iload_n 2, 1) := by decide +kernel
theorem dX0_word_20 : decode cX0_word 20 = .ok (.iconst 1, 1) := by decide +kernel
theorem dX0_word_21 : decode cX0_word 21 = .ok (.iand, 1) := by decide +kernel
theorem dX0_word_22 : decode cX0_word 22 = .ok (.ifCond .ne 7, 3) := by decide +kernel
theorem dX0_word_25 : decode cX0_word 25 = .ok (.lload_n 3, 1) := by decide +kernel
theorem dX0_word_26 : decode cX0_word 26 = .ok (.goto 7, 3) := by decide +kernel
theorem dX0_word_29 : decode cX0_word 29 = .ok (.lload_n 3, 1) := by decide +kernel
theorem dX0_word_30 : decode cX0_word 30 = .ok (.bipush 32, 2) := by decide +kernel
theorem dX0_word_32 : decode cX0_word 32 = .ok (.lushr, 1) := by decide +kernel
theorem dX0_word_33 : decode cX0_word 33 = .ok (.l2i, 1) := by decide +kernel
theorem dX0_word_34 : decode cX0_word 34 = .ok (.ireturn, 1) := by decide +kernel
abbrev cX0_add : ByteArray := prog_1_method_17_code
def yX0_add : MethodName := ⟨RX0, "add", "(III)V"⟩
theorem dX0_add_0 : decode cX0_add 0 = .ok (.aload_n 0, 1) := by decide +kernel
theorem dX0_add_1 : decode cX0_add 1 = .ok (.aload_n 0, 1) := by decide +kernel
theorem dX0_add_2 : decode cX0_add 2 = .ok (.getfield 19, 3) := by decide +kernel
theorem dX0_add_5 : decode cX0_add 5 = .ok (.iload_n 2, 1) := by decide +kernel
theorem dX0_add_6 : decode cX0_add 6 = .ok (.invokevirtual 82, 3) := by decide +kernel
theorem dX0_add_9 : decode cX0_add 9 = .ok (.aload_n 0, 1) := by decide +kernel
theorem dX0_add_10 : decode cX0_add 10 = .ok (.aload_n 0, 1) := by decide +kernel
theorem dX0_add_11 : decode cX0_add 11 = .ok (.getfield 22, 3) := by decide +kernel
theorem dX0_add_14 : decode cX0_add 14 = .ok (.iload_n 3, 1) := by decide +kernel
theorem dX0_add_15 : decode cX0_add 15 = .ok (.invokevirtual 82, 3) := by decide +kernel
theorem dX0_add_18 : decode cX0_add 18 = .ok (.iconst 0, 1) := by decide +kernel
theorem dX0_add_19 : decode cX0_add 19 = .ok (.istore 4, 2) := by decide +kernel
theorem dX0_add_21 : decode cX0_add 21 = .ok (.iload 4, 2) := by decide +kernel
theorem dX0_add_23 : decode cX0_add 23 = .ok (.iconst 5, 1) := by decide +kernel
theorem dX0_add_24 : decode cX0_add 24 = .ok (.if_icmp .ge 26, 3) := by decide +kernel
theorem dX0_add_27 : decode cX0_add 27 = .ok (.aload_n 0, 1) := by decide +kernel
theorem dX0_add_28 : decode cX0_add 28 = .ok (.getfield 19, 3) := by decide +kernel
theorem dX0_add_31 : decode cX0_add 31 = .ok (.iload 4, 2) := by decide +kernel
theorem dX0_add_33 : decode cX0_add 33 = .ok (.dup2, 1) := by decide +kernel
theorem dX0_add_34 : decode cX0_add 34 = .ok (.laload, 1) := by decide +kernel
theorem dX0_add_35 : decode cX0_add 35 = .ok (.aload_n 0, 1) := by decide +kernel
theorem dX0_add_36 : decode cX0_add 36 = .ok (.getfield 22, 3) := by decide +kernel
theorem dX0_add_39 : decode cX0_add 39 = .ok (.iload 4, 2) := by decide +kernel
theorem dX0_add_41 : decode cX0_add 41 = .ok (.laload, 1) := by decide +kernel
theorem dX0_add_42 : decode cX0_add 42 = .ok (.lxor, 1) := by decide +kernel
theorem dX0_add_43 : decode cX0_add 43 = .ok (.lastore, 1) := by decide +kernel
theorem dX0_add_44 : decode cX0_add 44 = .ok (.iinc 4 1, 3) := by decide +kernel
theorem dX0_add_47 : decode cX0_add 47 = .ok (.goto (-26), 3) := by decide +kernel
theorem dX0_add_50 : decode cX0_add 50 = .ok (.aload_n 0, 1) := by decide +kernel
theorem dX0_add_51 : decode cX0_add 51 = .ok (.iload_n 1, 1) := by decide +kernel
theorem dX0_add_52 : decode cX0_add 52 = .ok (.invokevirtual 77, 3) := by decide +kernel
theorem dX0_add_55 : decode cX0_add 55 = .ok (.return_, 1) := by decide +kernel
abbrev cX0_get : ByteArray := prog_1_method_3_code
def yX0_get : MethodName := ⟨RX0, "get", "([JI)V"⟩
theorem dX0_get_0 : decode cX0_get 0 = .ok (.iconst 0, 1) := by decide +kernel
theorem dX0_get_1 : decode cX0_get 1 = .ok (.istore_n 3, 1) := by decide +kernel
theorem dX0_get_2 : decode cX0_get 2 = .ok (.iload_n 3, 1) := by decide +kernel
theorem dX0_get_3 : decode cX0_get 3 = .ok (.iconst 5, 1) := by decide +kernel
theorem dX0_get_4 : decode cX0_get 4 = .ok (.if_icmp .ge 23, 3) := by decide +kernel
theorem dX0_get_7 : decode cX0_get 7 = .ok (.aload_n 1, 1) := by decide +kernel
theorem dX0_get_8 : decode cX0_get 8 = .ok (.iload_n 3, 1) := by decide +kernel
theorem dX0_get_9 : decode cX0_get 9 = .ok (.aload_n 0, 1) := by decide +kernel
theorem dX0_get_10 : decode cX0_get 10 = .ok (.getfield 7, 3) := by decide +kernel
theorem dX0_get_13 : decode cX0_get 13 = .ok (.iload_n 2, 1) := by decide +kernel
theorem dX0_get_14 : decode cX0_get 14 = .ok (.invokestatic 36, 3) := by decide +kernel
theorem dX0_get_17 : decode cX0_get 17 = .ok (.iload_n 3, 1) := by decide +kernel
theorem dX0_get_18 : decode cX0_get 18 = .ok (.iadd, 1) := by decide +kernel
theorem dX0_get_19 : decode cX0_get 19 = .ok (.laload, 1) := by decide +kernel
theorem dX0_get_20 : decode cX0_get 20 = .ok (.lastore, 1) := by decide +kernel
theorem dX0_get_21 : decode cX0_get 21 = .ok (.iinc 3 1, 3) := by decide +kernel
theorem dX0_get_24 : decode cX0_get 24 = .ok (.goto (-22), 3) := by decide +kernel
theorem dX0_get_27 : decode cX0_get 27 = .ok (.return_, 1) := by decide +kernel
abbrev cX0_addOne : ByteArray := prog_1_method_18_code
def yX0_addOne : MethodName := ⟨RX0, "addOne", "(II)V"⟩
theorem dX0_addOne_0 : decode cX0_addOne 0 = .ok (.aload_n 0, 1) := by decide +kernel
theorem dX0_addOne_1 : decode cX0_addOne 1 = .ok (.aload_n 0, 1) := by decide +kernel
theorem dX0_addOne_2 : decode cX0_addOne 2 = .ok (.getfield 19, 3) := by decide +kernel
theorem dX0_addOne_5 : decode cX0_addOne 5 = .ok (.iload_n 2, 1) := by decide +kernel
theorem dX0_addOne_6 : decode cX0_addOne 6 = .ok (.invokevirtual 82, 3) := by decide +kernel
theorem dX0_addOne_9 : decode cX0_addOne 9 = .ok (.aload_n 0, 1) := by decide +kernel
theorem dX0_addOne_10 : decode cX0_addOne 10 = .ok (.getfield 19, 3) := by decide +kernel
theorem dX0_addOne_13 : decode cX0_addOne 13 = .ok (.iconst 0, 1) := by decide +kernel
theorem dX0_addOne_14 : decode cX0_addOne 14 = .ok (.dup2, 1) := by decide +kernel
theorem dX0_addOne_15 : decode cX0_addOne 15 = .ok (.laload, 1) := by decide +kernel
theorem dX0_addOne_16 : decode cX0_addOne 16 = .ok (.lconst 1, 1) := by decide +kernel
theorem dX0_addOne_17 : decode cX0_addOne 17 = .ok (.lxor, 1) := by decide +kernel
theorem dX0_addOne_18 : decode cX0_addOne 18 = .ok (.lastore, 1) := by decide +kernel
theorem dX0_addOne_19 : decode cX0_addOne 19 = .ok (.aload_n 0, 1) := by decide +kernel
theorem dX0_addOne_20 : decode cX0_addOne 20 = .ok (.iload_n 1, 1) := by decide +kernel
theorem dX0_addOne_21 : decode cX0_addOne 21 = .ok (.invokevirtual 77, 3) := by decide +kernel
theorem dX0_addOne_24 : decode cX0_addOne 24 = .ok (.return_, 1) := by decide +kernel
abbrev cX0_multiply : ByteArray := prog_1_method_19_code
def yX0_multiply : MethodName := ⟨RX0, "multiply", "(III)V"⟩
theorem dX0_multiply_0 : decode cX0_multiply 0 = .ok (.aload_n 0, 1) := by decide +kernel
theorem dX0_multiply_1 : decode cX0_multiply 1 = .ok (.aload_n 0, 1) := by decide +kernel
theorem dX0_multiply_2 : decode cX0_multiply 2 = .ok (.getfield 19, 3) := by decide +kernel
theorem dX0_multiply_5 : decode cX0_multiply 5 = .ok (.iload_n 2, 1) := by decide +kernel
theorem dX0_multiply_6 : decode cX0_multiply 6 = .ok (.invokevirtual 82, 3) := by decide +kernel
theorem dX0_multiply_9 : decode cX0_multiply 9 = .ok (.aload_n 0, 1) := by decide +kernel
theorem dX0_multiply_10 : decode cX0_multiply 10 = .ok (.aload_n 0, 1) := by decide +kernel
theorem dX0_multiply_11 : decode cX0_multiply 11 = .ok (.getfield 22, 3) := by decide +kernel
theorem dX0_multiply_14 : decode cX0_multiply 14 = .ok (.iload_n 3, 1) := by decide +kernel
theorem dX0_multiply_15 : decode cX0_multiply 15 = .ok (.invokevirtual 82, 3) := by decide +kernel
theorem dX0_multiply_18 : decode cX0_multiply 18 = .ok (.aload_n 0, 1) := by decide +kernel
theorem dX0_multiply_19 : decode cX0_multiply 19 = .ok (.aload_n 0, 1) := by decide +kernel
theorem dX0_multiply_20 : decode cX0_multiply 20 = .ok (.getfield 22, 3) := by decide +kernel
theorem dX0_multiply_23 : decode cX0_multiply 23 = .ok (.invokevirtual 86, 3) := by decide +kernel
theorem dX0_multiply_26 : decode cX0_multiply 26 = .ok (.aload_n 0, 1) := by decide +kernel
theorem dX0_multiply_27 : decode cX0_multiply 27 = .ok (.iload_n 1, 1) := by decide +kernel
theorem dX0_multiply_28 : decode cX0_multiply 28 = .ok (.invokevirtual 77, 3) := by decide +kernel
theorem dX0_multiply_31 : decode cX0_multiply 31 = .ok (.return_, 1) := by decide +kernel
abbrev cX0_times : ByteArray := prog_1_method_8_code
def yX0_times : MethodName := ⟨RX0, "times", "([J)V"⟩
theorem dX0_times_0 : decode cX0_times 0 = .ok (.iconst 0, 1) := by decide +kernel
theorem dX0_times_1 : decode cX0_times 1 = .ok (.istore_n 2, 1) := by decide +kernel
theorem dX0_times_2 : decode cX0_times 2 = .ok (.iload_n 2, 1) := by decide +kernel
theorem dX0_times_3 : decode cX0_times 3 = .ok (.bipush 10, 2) := by decide +kernel
theorem dX0_times_5 : decode cX0_times 5 = .ok (.if_icmp .ge 16, 3) := by decide +kernel
theorem dX0_times_8 : decode cX0_times 8 = .ok (.aload_n 0, 1) := by decide +kernel
theorem dX0_times_9 : decode cX0_times 9 = .ok (.getfield 16, 3) := by decide +kernel
theorem dX0_times_12 : decode cX0_times 12 = .ok (.iload_n 2, 1) := by decide +kernel
theorem dX0_times_13 : decode cX0_times 13 = .ok (.lconst 0, 1) := by decide +kernel
theorem dX0_times_14 : decode cX0_times 14 = .ok (.lastore, 1) := by decide +kernel
theorem dX0_times_15 : decode cX0_times 15 = .ok (.iinc 2 1, 3) := by decide +kernel
theorem dX0_times_18 : decode cX0_times 18 = .ok (.goto (-16), 3) := by decide +kernel
theorem dX0_times_21 : decode cX0_times 21 = .ok (.iconst 0, 1) := by decide +kernel
theorem dX0_times_22 : decode cX0_times 22 = .ok (.istore_n 2, 1) := by decide +kernel
theorem dX0_times_23 : decode cX0_times 23 = .ok (.iload_n 2, 1) := by decide +kernel
theorem dX0_times_24 : decode cX0_times 24 = .ok (.iconst 5, 1) := by decide +kernel
theorem dX0_times_25 : decode cX0_times 25 = .ok (.if_icmp .ge 88, 3) := by decide +kernel
theorem dX0_times_28 : decode cX0_times 28 = .ok (.aload_n 0, 1) := by decide +kernel
theorem dX0_times_29 : decode cX0_times 29 = .ok (.getfield 19, 3) := by decide +kernel
theorem dX0_times_32 : decode cX0_times 32 = .ok (.iload_n 2, 1) := by decide +kernel
theorem dX0_times_33 : decode cX0_times 33 = .ok (.laload, 1) := by decide +kernel
theorem dX0_times_34 : decode cX0_times 34 = .ok (.lstore_n 3, 1) := by decide +kernel
theorem dX0_times_35 : decode cX0_times 35 = .ok (.lload_n 3, 1) := by decide +kernel
theorem dX0_times_36 : decode cX0_times 36 = .ok (.invokestatic 46, 3) := by decide +kernel
theorem dX0_times_39 : decode cX0_times 39 = .ok (.lstore 5, 2) := by decide +kernel
theorem dX0_times_41 : decode cX0_times 41 = .ok (.iconst 0, 1) := by decide +kernel
theorem dX0_times_42 : decode cX0_times 42 = .ok (.istore 7, 2) := by decide +kernel
theorem dX0_times_44 : decode cX0_times 44 = .ok (.iload 7, 2) := by decide +kernel
theorem dX0_times_46 : decode cX0_times 46 = .ok (.iconst 5, 1) := by decide +kernel
theorem dX0_times_47 : decode cX0_times 47 = .ok (.if_icmp .ge 60, 3) := by decide +kernel
theorem dX0_times_50 : decode cX0_times 50 = .ok (.aload_n 0, 1) := by decide +kernel
theorem dX0_times_51 : decode cX0_times 51 = .ok (.getfield 16, 3) := by decide +kernel
theorem dX0_times_54 : decode cX0_times 54 = .ok (.iload_n 2, 1) := by decide +kernel
theorem dX0_times_55 : decode cX0_times 55 = .ok (.iload 7, 2) := by decide +kernel
theorem dX0_times_57 : decode cX0_times 57 = .ok (.iadd, 1) := by decide +kernel
theorem dX0_times_58 : decode cX0_times 58 = .ok (.dup2, 1) := by decide +kernel
theorem dX0_times_59 : decode cX0_times 59 = .ok (.laload, 1) := by decide +kernel
theorem dX0_times_60 : decode cX0_times 60 = .ok (.lload_n 3, 1) := by decide +kernel
theorem dX0_times_61 : decode cX0_times 61 = .ok (.aload_n 1, 1) := by decide +kernel
theorem dX0_times_62 : decode cX0_times 62 = .ok (.iload 7, 2) := by decide +kernel
theorem dX0_times_64 : decode cX0_times 64 = .ok (.laload, 1) := by decide +kernel
theorem dX0_times_65 : decode cX0_times 65 = .ok (.invokestatic 50, 3) := by decide +kernel
theorem dX0_times_68 : decode cX0_times 68 = .ok (.lxor, 1) := by decide +kernel
theorem dX0_times_69 : decode cX0_times 69 = .ok (.lastore, 1) := by decide +kernel
theorem dX0_times_70 : decode cX0_times 70 = .ok (.aload_n 0, 1) := by decide +kernel
theorem dX0_times_71 : decode cX0_times 71 = .ok (.getfield 16, 3) := by decide +kernel
theorem dX0_times_74 : decode cX0_times 74 = .ok (.iload_n 2, 1) := by decide +kernel
theorem dX0_times_75 : decode cX0_times 75 = .ok (.iload 7, 2) := by decide +kernel
theorem dX0_times_77 : decode cX0_times 77 = .ok (.iadd, 1) := by decide +kernel
theorem dX0_times_78 : decode cX0_times 78 = .ok (.iconst 1, 1) := by decide +kernel
theorem dX0_times_79 : decode cX0_times 79 = .ok (.iadd, 1) := by decide +kernel
theorem dX0_times_80 : decode cX0_times 80 = .ok (.dup2, 1) := by decide +kernel
theorem dX0_times_81 : decode cX0_times 81 = .ok (.laload, 1) := by decide +kernel
theorem dX0_times_82 : decode cX0_times 82 = .ok (.lload 5, 2) := by decide +kernel
theorem dX0_times_84 : decode cX0_times 84 = .ok (.aload_n 1, 1) := by decide +kernel
theorem dX0_times_85 : decode cX0_times 85 = .ok (.iload 7, 2) := by decide +kernel
theorem dX0_times_87 : decode cX0_times 87 = .ok (.laload, 1) := by decide +kernel
theorem dX0_times_88 : decode cX0_times 88 = .ok (.invokestatic 46, 3) := by decide +kernel
theorem dX0_times_91 : decode cX0_times 91 = .ok (.invokestatic 50, 3) := by decide +kernel
theorem dX0_times_94 : decode cX0_times 94 = .ok (.invokestatic 46, 3) := by decide +kernel
theorem dX0_times_97 : decode cX0_times 97 = .ok (.iconst 1, 1) := by decide +kernel
theorem dX0_times_98 : decode cX0_times 98 = .ok (.lushr, 1) := by decide +kernel
theorem dX0_times_99 : decode cX0_times 99 = .ok (.lxor, 1) := by decide +kernel
theorem dX0_times_100 : decode cX0_times 100 = .ok (.lastore, 1) := by decide +kernel
theorem dX0_times_101 : decode cX0_times 101 = .ok (.iinc 7 1, 3) := by decide +kernel
theorem dX0_times_104 : decode cX0_times 104 = .ok (.goto (-60), 3) := by decide +kernel
theorem dX0_times_107 : decode cX0_times 107 = .ok (.iinc 2 1, 3) := by decide +kernel
theorem dX0_times_110 : decode cX0_times 110 = .ok (.goto (-87), 3) := by decide +kernel
theorem dX0_times_113 : decode cX0_times 113 = .ok (.aload_n 0, 1) := by decide +kernel
theorem dX0_times_114 : decode cX0_times 114 = .ok (.invokevirtual 54, 3) := by decide +kernel
theorem dX0_times_117 : decode cX0_times 117 = .ok (.return_, 1) := by decide +kernel
abbrev cX0_turned : ByteArray := prog_1_method_7_code
def yX0_turned : MethodName := ⟨RX0, "turned", "(J)J"⟩
theorem dX0_turned_0 : decode cX0_turned 0 = .ok (.lload_n 0, 1) := by decide +kernel
theorem dX0_turned_1 : decode cX0_turned 1 = .ok (.lstore_n 2, 1) := by decide +kernel
theorem dX0_turned_2 : decode cX0_turned 2 = .ok (.ldc2_w 44, 3) := by decide +kernel
theorem dX0_turned_5 : decode cX0_turned 5 = .ok (.lstore 4, 2) := by decide +kernel
theorem dX0_turned_7 : decode cX0_turned 7 = .ok (.bipush 32, 2) := by decide +kernel
theorem dX0_turned_9 : decode cX0_turned 9 = .ok (.istore 6, 2) := by decide +kernel
theorem dX0_turned_11 : decode cX0_turned 11 = .ok (.iload 6, 2) := by decide +kernel
theorem dX0_turned_13 : decode cX0_turned 13 = .ok (.ifCond .le 42, 3) := by decide +kernel
theorem dX0_turned_16 : decode cX0_turned 16 = .ok (.lload 4, 2) := by decide +kernel
theorem dX0_turned_18 : decode cX0_turned 18 = .ok (.lload 4, 2) := by decide +kernel
theorem dX0_turned_20 : decode cX0_turned 20 = .ok (.iload 6, 2) := by decide +kernel
theorem dX0_turned_22 : decode cX0_turned 22 = .ok (.lshl, 1) := by decide +kernel
theorem dX0_turned_23 : decode cX0_turned 23 = .ok (.lxor, 1) := by decide +kernel
theorem dX0_turned_24 : decode cX0_turned 24 = .ok (.lstore 4, 2) := by decide +kernel
theorem dX0_turned_26 : decode cX0_turned 26 = .ok (.lload_n 2, 1) := by decide +kernel
theorem dX0_turned_27 : decode cX0_turned 27 = .ok (.iload 6, 2) := by decide +kernel
theorem dX0_turned_29 : decode cX0_turned 29 = .ok (.lushr, 1) := by decide +kernel
theorem dX0_turned_30 : decode cX0_turned 30 = .ok (.lload 4, 2) := by decide +kernel
theorem dX0_turned_32 : decode cX0_turned 32 = .ok (.land, 1) := by decide +kernel
theorem dX0_turned_33 : decode cX0_turned 33 = .ok (.lload_n 2, 1) := by decide +kernel
theorem dX0_turned_34 : decode cX0_turned 34 = .ok (.iload 6, 2) := by decide +kernel
theorem dX0_turned_36 : decode cX0_turned 36 = .ok (.lshl, 1) := by decide +kernel
theorem dX0_turned_37 : decode cX0_turned 37 = .ok (.lload 4, 2) := by decide +kernel
theorem dX0_turned_39 : decode cX0_turned 39 = .ok (.ldc2_w 44, 3) := by decide +kernel
theorem dX0_turned_42 : decode cX0_turned 42 = .ok (.lxor, 1) := by decide +kernel
theorem dX0_turned_43 : decode cX0_turned 43 = .ok (.land, 1) := by decide +kernel
theorem dX0_turned_44 : decode cX0_turned 44 = .ok (.lor, 1) := by decide +kernel
theorem dX0_turned_45 : decode cX0_turned 45 = .ok (.lstore_n 2, 1) := by decide +kernel
theorem dX0_turned_46 : decode cX0_turned 46 = .ok (.iload 6, 2) := by decide +kernel
theorem dX0_turned_48 : decode cX0_turned 48 = .ok (.iconst 1, 1) := by decide +kernel
theorem dX0_turned_49 : decode cX0_turned 49 = .ok (.ishr, 1) := by decide +kernel
theorem dX0_turned_50 : decode cX0_turned 50 = .ok (.istore 6, 2) := by decide +kernel
theorem dX0_turned_52 : decode cX0_turned 52 = .ok (.goto (-41), 3) := by decide +kernel
theorem dX0_turned_55 : decode cX0_turned 55 = .ok (.lload_n 2, 1) := by decide +kernel
theorem dX0_turned_56 : decode cX0_turned 56 = .ok (.lreturn, 1) := by decide +kernel
abbrev cX0_low : ByteArray := prog_1_method_6_code
def yX0_low : MethodName := ⟨RX0, "low", "(JJ)J"⟩
theorem dX0_low_0 : decode cX0_low 0 = .ok (.lconst 0, 1) := by decide +kernel
theorem dX0_low_1 : decode cX0_low 1 = .ok (.lstore 4, 2) := by decide +kernel
theorem dX0_low_3 : decode cX0_low 3 = .ok (.iconst 0, 1) := by decide +kernel
theorem dX0_low_4 : decode cX0_low 4 = .ok (.istore 6, 2) := by decide +kernel
theorem dX0_low_6 : decode cX0_low 6 = .ok (.iload 6, 2) := by decide +kernel
theorem dX0_low_8 : decode cX0_low 8 = .ok (.iconst 4, 1) := by decide +kernel
theorem dX0_low_9 : decode cX0_low 9 = .ok (.if_icmp .ge 68, 3) := by decide +kernel
theorem dX0_low_12 : decode cX0_low 12 = .ok (.lconst 0, 1) := by decide +kernel
theorem dX0_low_13 : decode cX0_low 13 = .ok (.lstore 7, 2) := by decide +kernel
theorem dX0_low_15 : decode cX0_low 15 = .ok (.iconst 0, 1) := by decide +kernel
theorem dX0_low_16 : decode cX0_low 16 = .ok (.istore 9, 2) := by decide +kernel
theorem dX0_low_18 : decode cX0_low 18 = .ok (.iload 9, 2) := by decide +kernel
theorem dX0_low_20 : decode cX0_low 20 = .ok (.iconst 4, 1) := by decide +kernel
theorem dX0_low_21 : decode cX0_low 21 = .ok (.if_icmp .ge 36, 3) := by decide +kernel
theorem dX0_low_24 : decode cX0_low 24 = .ok (.lload 7, 2) := by decide +kernel
theorem dX0_low_26 : decode cX0_low 26 = .ok (.lload_n 0, 1) := by decide +kernel
theorem dX0_low_27 : decode cX0_low 27 = .ok (.ldc2_w 42, 3) := by decide +kernel
theorem dX0_low_30 : decode cX0_low 30 = .ok (.iload 9, 2) := by decide +kernel
theorem dX0_low_32 : decode cX0_low 32 = .ok (.lshl, 1) := by decide +kernel
theorem dX0_low_33 : decode cX0_low 33 = .ok (.land, 1) := by decide +kernel
theorem dX0_low_34 : decode cX0_low 34 = .ok (.lload_n 2, 1) := by decide +kernel
theorem dX0_low_35 : decode cX0_low 35 = .ok (.ldc2_w 42, 3) := by decide +kernel
theorem dX0_low_38 : decode cX0_low 38 = .ok (.iload 6, 2) := by decide +kernel
theorem dX0_low_40 : decode cX0_low 40 = .ok (.iload 9, 2) := by decide +kernel
theorem dX0_low_42 : decode cX0_low 42 = .ok (.isub, 1) := by decide +kernel
theorem dX0_low_43 : decode cX0_low 43 = .ok (.iconst 3, 1) := by decide +kernel
theorem dX0_low_44 : decode cX0_low 44 = .ok (.iand, 1) := by decide +kernel
theorem dX0_low_45 : decode cX0_low 45 = .ok (.lshl, 1) := by decide +kernel
theorem dX0_low_46 : decode cX0_low 46 = .ok (.land, 1) := by decide +kernel
theorem dX0_low_47 : decode cX0_low 47 = .ok (.lmul, 1) := by decide +kernel
theorem dX0_low_48 : decode cX0_low 48 = .ok (.lxor, 1) := by decide +kernel
theorem dX0_low_49 : decode cX0_low 49 = .ok (.lstore 7, 2) := by decide +kernel
theorem dX0_low_51 : decode cX0_low 51 = .ok (.iinc 9 1, 3) := by decide +kernel
theorem dX0_low_54 : decode cX0_low 54 = .ok (.goto (-36), 3) := by decide +kernel
theorem dX0_low_57 : decode cX0_low 57 = .ok (.lload 4, 2) := by decide +kernel
theorem dX0_low_59 : decode cX0_low 59 = .ok (.lload 7, 2) := by decide +kernel
theorem dX0_low_61 : decode cX0_low 61 = .ok (.ldc2_w 42, 3) := by decide +kernel
theorem dX0_low_64 : decode cX0_low 64 = .ok (.iload 6, 2) := by decide +kernel
theorem dX0_low_66 : decode cX0_low 66 = .ok (.lshl, 1) := by decide +kernel
theorem dX0_low_67 : decode cX0_low 67 = .ok (.land, 1) := by decide +kernel
theorem dX0_low_68 : decode cX0_low 68 = .ok (.lor, 1) := by decide +kernel
theorem dX0_low_69 : decode cX0_low 69 = .ok (.lstore 4, 2) := by decide +kernel
theorem dX0_low_71 : decode cX0_low 71 = .ok (.iinc 6 1, 3) := by decide +kernel
theorem dX0_low_74 : decode cX0_low 74 = .ok (.goto (-68), 3) := by decide +kernel
theorem dX0_low_77 : decode cX0_low 77 = .ok (.lload 4, 2) := by decide +kernel
theorem dX0_low_79 : decode cX0_low 79 = .ok (.lreturn, 1) := by decide +kernel
abbrev cX0_square : ByteArray := prog_1_method_20_code
def yX0_square : MethodName := ⟨RX0, "square", "(II)V"⟩
theorem dX0_square_0 : decode cX0_square 0 = .ok (.aload_n 0, 1) := by decide +kernel
theorem dX0_square_1 : decode cX0_square 1 = .ok (.aload_n 0, 1) := by decide +kernel
theorem dX0_square_2 : decode cX0_square 2 = .ok (.getfield 19, 3) := by decide +kernel
theorem dX0_square_5 : decode cX0_square 5 = .ok (.iload_n 2, 1) := by decide +kernel
theorem dX0_square_6 : decode cX0_square 6 = .ok (.invokevirtual 82, 3) := by decide +kernel
theorem dX0_square_9 : decode cX0_square 9 = .ok (.aload_n 0, 1) := by decide +kernel
theorem dX0_square_10 : decode cX0_square 10 = .ok (.invokevirtual 33, 3) := by decide +kernel
theorem dX0_square_13 : decode cX0_square 13 = .ok (.aload_n 0, 1) := by decide +kernel
theorem dX0_square_14 : decode cX0_square 14 = .ok (.iload_n 1, 1) := by decide +kernel
theorem dX0_square_15 : decode cX0_square 15 = .ok (.invokevirtual 77, 3) := by decide +kernel
theorem dX0_square_18 : decode cX0_square 18 = .ok (.return_, 1) := by decide +kernel
abbrev cX0_squares : ByteArray := prog_1_method_21_code
def yX0_squares : MethodName := ⟨RX0, "squares", "(III)V"⟩
theorem dX0_squares_0 : decode cX0_squares 0 = .ok (.aload_n 0, 1) := by decide +kernel
theorem dX0_squares_1 : decode cX0_squares 1 = .ok (.aload_n 0, 1) := by decide +kernel
theorem dX0_squares_2 : decode cX0_squares 2 = .ok (.getfield 19, 3) := by decide +kernel
theorem dX0_squares_5 : decode cX0_squares 5 = .ok (.iload_n 2, 1) := by decide +kernel
theorem dX0_squares_6 : decode cX0_squares 6 = .ok (.invokevirtual 82, 3) := by decide +kernel
theorem dX0_squares_9 : decode cX0_squares 9 = .ok (.aload_n 0, 1) := by decide +kernel
theorem dX0_squares_10 : decode cX0_squares 10 = .ok (.iload_n 3, 1) := by decide +kernel
theorem dX0_squares_11 : decode cX0_squares 11 = .ok (.bipush 15, 2) := by decide +kernel
theorem dX0_squares_13 : decode cX0_squares 13 = .ok (.iand, 1) := by decide +kernel
theorem dX0_squares_14 : decode cX0_squares 14 = .ok (.iconst 1, 1) := by decide +kernel
theorem dX0_squares_15 : decode cX0_squares 15 = .ok (.iadd, 1) := by decide +kernel
theorem dX0_squares_16 : decode cX0_squares 16 = .ok (.invokevirtual 90, 3) := by decide +kernel
theorem dX0_squares_19 : decode cX0_squares 19 = .ok (.aload_n 0, 1) := by decide +kernel
theorem dX0_squares_20 : decode cX0_squares 20 = .ok (.iload_n 1, 1) := by decide +kernel
theorem dX0_squares_21 : decode cX0_squares 21 = .ok (.invokevirtual 77, 3) := by decide +kernel
theorem dX0_squares_24 : decode cX0_squares 24 = .ok (.return_, 1) := by decide +kernel
abbrev cX0_often : ByteArray := prog_1_method_13_code
def yX0_often : MethodName := ⟨RX0, "often", "(I)V"⟩
theorem dX0_often_0 : decode cX0_often 0 = .ok (.iconst 0, 1) := by decide +kernel
theorem dX0_often_1 : decode cX0_often 1 = .ok (.istore_n 2, 1) := by decide +kernel
theorem dX0_often_2 : decode cX0_often 2 = .ok (.iload_n 2, 1) := by decide +kernel
theorem dX0_often_3 : decode cX0_often 3 = .ok (.iload_n 1, 1) := by decide +kernel
theorem dX0_often_4 : decode cX0_often 4 = .ok (.if_icmp .ge 13, 3) := by decide +kernel
theorem dX0_often_7 : decode cX0_often 7 = .ok (.aload_n 0, 1) := by decide +kernel
theorem dX0_often_8 : decode cX0_often 8 = .ok (.invokevirtual 33, 3) := by decide +kernel
theorem dX0_often_11 : decode cX0_often 11 = .ok (.iinc 2 1, 3) := by decide +kernel
theorem dX0_often_14 : decode cX0_often 14 = .ok (.goto (-12), 3) := by decide +kernel
theorem dX0_often_17 : decode cX0_often 17 = .ok (.return_, 1) := by decide +kernel
abbrev cX0_root : ByteArray := prog_1_method_22_code
def yX0_root : MethodName := ⟨RX0, "root", "(II)V"⟩
theorem dX0_root_0 : decode cX0_root 0 = .ok (.aload_n 0, 1) := by decide +kernel
theorem dX0_root_1 : decode cX0_root 1 = .ok (.aload_n 0, 1) := by decide +kernel
theorem dX0_root_2 : decode cX0_root 2 = .ok (.getfield 25, 3) := by decide +kernel
theorem dX0_root_5 : decode cX0_root 5 = .ok (.iload_n 2, 1) := by decide +kernel
theorem dX0_root_6 : decode cX0_root 6 = .ok (.invokevirtual 82, 3) := by decide +kernel
theorem dX0_root_9 : decode cX0_root 9 = .ok (.iconst 0, 1) := by decide +kernel
theorem dX0_root_10 : decode cX0_root 10 = .ok (.istore_n 3, 1) := by decide +kernel
theorem dX0_root_11 : decode cX0_root 11 = .ok (.iload_n 3, 1) := by decide +kernel
theorem dX0_root_12 : decode cX0_root 12 = .ok (.iconst 5, 1) := by decide +kernel
theorem dX0_root_13 : decode cX0_root 13 = .ok (.if_icmp .ge 23, 3) := by decide +kernel
theorem dX0_root_16 : decode cX0_root 16 = .ok (.aload_n 0, 1) := by decide +kernel
theorem dX0_root_17 : decode cX0_root 17 = .ok (.getfield 19, 3) := by decide +kernel
theorem dX0_root_20 : decode cX0_root 20 = .ok (.iload_n 3, 1) := by decide +kernel
theorem dX0_root_21 : decode cX0_root 21 = .ok (.lconst 0, 1) := by decide +kernel
theorem dX0_root_22 : decode cX0_root 22 = .ok (.lastore, 1) := by decide +kernel
theorem dX0_root_23 : decode cX0_root 23 = .ok (.aload_n 0, 1) := by decide +kernel
theorem dX0_root_24 : decode cX0_root 24 = .ok (.getfield 22, 3) := by decide +kernel
theorem dX0_root_27 : decode cX0_root 27 = .ok (.iload_n 3, 1) := by decide +kernel
theorem dX0_root_28 : decode cX0_root 28 = .ok (.lconst 0, 1) := by decide +kernel
theorem dX0_root_29 : decode cX0_root 29 = .ok (.lastore, 1) := by decide +kernel
theorem dX0_root_30 : decode cX0_root 30 = .ok (.iinc 3 1, 3) := by decide +kernel
theorem dX0_root_33 : decode cX0_root 33 = .ok (.goto (-22), 3) := by decide +kernel
theorem dX0_root_36 : decode cX0_root 36 = .ok (.iconst 0, 1) := by decide +kernel
theorem dX0_root_37 : decode cX0_root 37 = .ok (.istore_n 3, 1) := by decide +kernel
theorem dX0_root_38 : decode cX0_root 38 = .ok (.iload_n 3, 1) := by decide +kernel
theorem dX0_root_39 : decode cX0_root 39 = .ok (.iconst 5, 1) := by decide +kernel
theorem dX0_root_40 : decode cX0_root 40 = .ok (.if_icmp .ge 65, 3) := by decide +kernel
theorem dX0_root_43 : decode cX0_root 43 = .ok (.aload_n 0, 1) := by decide +kernel
theorem dX0_root_44 : decode cX0_root 44 = .ok (.getfield 22, 3) := by decide +kernel
theorem dX0_root_47 : decode cX0_root 47 = .ok (.iload_n 3, 1) := by decide +kernel
theorem dX0_root_48 : decode cX0_root 48 = .ok (.iconst 2, 1) := by decide +kernel
theorem dX0_root_49 : decode cX0_root 49 = .ok (.idiv, 1) := by decide +kernel
theorem dX0_root_50 : decode cX0_root 50 = .ok (.dup2, 1) := by decide +kernel
theorem dX0_root_51 : decode cX0_root 51 = .ok (.laload, 1) := by decide +kernel
theorem dX0_root_52 : decode cX0_root 52 = .ok (.aload_n 0, 1) := by decide +kernel
theorem dX0_root_53 : decode cX0_root 53 = .ok (.getfield 25, 3) := by decide +kernel
theorem dX0_root_56 : decode cX0_root 56 = .ok (.iload_n 3, 1) := by decide +kernel
theorem dX0_root_57 : decode cX0_root 57 = .ok (.laload, 1) := by decide +kernel
theorem dX0_root_58 : decode cX0_root 58 = .ok (.invokestatic 93, 3) := by decide +kernel
theorem dX0_root_61 : decode cX0_root 61 = .ok (.bipush 32, 2) := by decide +kernel
theorem dX0_root_63 : decode cX0_root 63 = .ok (.iload_n 3, 1) := by decide +kernel
theorem dX0_root_64 : decode cX0_root 64 = .ok (.iconst 1, 1) := by decide +kernel
theorem dX0_root_65 : decode cX0_root 65 = .ok (.iand, 1) := by decide +kernel
theorem dX0_root_66 : decode cX0_root 66 = .ok (.imul, 1) := by decide +kernel
theorem dX0_root_67 : decode cX0_root 67 = .ok (.lshl, 1) := by decide +kernel
theorem dX0_root_68 : decode cX0_root 68 = .ok (.lor, 1) := by decide +kernel
theorem dX0_root_69 : decode cX0_root 69 = .ok (.lastore, 1) := by decide +kernel
theorem dX0_root_70 : decode cX0_root 70 = .ok (.aload_n 0, 1) := by decide +kernel
theorem dX0_root_71 : decode cX0_root 71 = .ok (.getfield 19, 3) := by decide +kernel
theorem dX0_root_74 : decode cX0_root 74 = .ok (.iload_n 3, 1) := by decide +kernel
theorem dX0_root_75 : decode cX0_root 75 = .ok (.iconst 2, 1) := by decide +kernel
theorem dX0_root_76 : decode cX0_root 76 = .ok (.idiv, 1) := by decide +kernel
theorem dX0_root_77 : decode cX0_root 77 = .ok (.dup2, 1) := by decide +kernel
theorem dX0_root_78 : decode cX0_root 78 = .ok (.laload, 1) := by decide +kernel
theorem dX0_root_79 : decode cX0_root 79 = .ok (.aload_n 0, 1) := by decide +kernel
theorem dX0_root_80 : decode cX0_root 80 = .ok (.getfield 25, 3) := by decide +kernel
theorem dX0_root_83 : decode cX0_root 83 = .ok (.iload_n 3, 1) := by decide +kernel
theorem dX0_root_84 : decode cX0_root 84 = .ok (.laload, 1) := by decide +kernel
theorem dX0_root_85 : decode cX0_root 85 = .ok (.iconst 1, 1) := by decide +kernel
theorem dX0_root_86 : decode cX0_root 86 = .ok (.lushr, 1) := by decide +kernel
theorem dX0_root_87 : decode cX0_root 87 = .ok (.invokestatic 93, 3) := by decide +kernel
theorem dX0_root_90 : decode cX0_root 90 = .ok (.bipush 32, 2) := by decide +kernel
theorem dX0_root_92 : decode cX0_root 92 = .ok (.iload_n 3, 1) := by decide +kernel
theorem dX0_root_93 : decode cX0_root 93 = .ok (.iconst 1, 1) := by decide +kernel
theorem dX0_root_94 : decode cX0_root 94 = .ok (.iand, 1) := by decide +kernel
theorem dX0_root_95 : decode cX0_root 95 = .ok (.imul, 1) := by decide +kernel
theorem dX0_root_96 : decode cX0_root 96 = .ok (.lshl, 1) := by decide +kernel
theorem dX0_root_97 : decode cX0_root 97 = .ok (.lor, 1) := by decide +kernel
theorem dX0_root_98 : decode cX0_root 98 = .ok (.lastore, 1) := by decide +kernel
theorem dX0_root_99 : decode cX0_root 99 = .ok (.iinc 3 1, 3) := by decide +kernel
theorem dX0_root_102 : decode cX0_root 102 = .ok (.goto (-64), 3) := by decide +kernel
theorem dX0_root_105 : decode cX0_root 105 = .ok (.aload_n 0, 1) := by decide +kernel
theorem dX0_root_106 : decode cX0_root 106 = .ok (.aload_n 0, 1) := by decide +kernel
theorem dX0_root_107 : decode cX0_root 107 = .ok (.getfield 28, 3) := by decide +kernel
theorem dX0_root_110 : decode cX0_root 110 = .ok (.invokevirtual 86, 3) := by decide +kernel
theorem dX0_root_113 : decode cX0_root 113 = .ok (.iconst 0, 1) := by decide +kernel
theorem dX0_root_114 : decode cX0_root 114 = .ok (.istore_n 3, 1) := by decide +kernel
theorem dX0_root_115 : decode cX0_root 115 = .ok (.iload_n 3, 1) := by decide +kernel
theorem dX0_root_116 : decode cX0_root 116 = .ok (.iconst 5, 1) := by decide +kernel
theorem dX0_root_117 : decode cX0_root 117 = .ok (.if_icmp .ge 24, 3) := by decide +kernel
theorem dX0_root_120 : decode cX0_root 120 = .ok (.aload_n 0, 1) := by decide +kernel
theorem dX0_root_121 : decode cX0_root 121 = .ok (.getfield 19, 3) := by decide +kernel
theorem dX0_root_124 : decode cX0_root 124 = .ok (.iload_n 3, 1) := by decide +kernel
theorem dX0_root_125 : decode cX0_root 125 = .ok (.dup2, 1) := by decide +kernel
theorem dX0_root_126 : decode cX0_root 126 = .ok (.laload, 1) := by decide +kernel
theorem dX0_root_127 : decode cX0_root 127 = .ok (.aload_n 0, 1) := by decide +kernel
theorem dX0_root_128 : decode cX0_root 128 = .ok (.getfield 22, 3) := by decide +kernel
theorem dX0_root_131 : decode cX0_root 131 = .ok (.iload_n 3, 1) := by decide +kernel
theorem dX0_root_132 : decode cX0_root 132 = .ok (.laload, 1) := by decide +kernel
theorem dX0_root_133 : decode cX0_root 133 = .ok (.lxor, 1) := by decide +kernel
theorem dX0_root_134 : decode cX0_root 134 = .ok (.lastore, 1) := by decide +kernel
theorem dX0_root_135 : decode cX0_root 135 = .ok (.iinc 3 1, 3) := by decide +kernel
theorem dX0_root_138 : decode cX0_root 138 = .ok (.goto (-23), 3) := by decide +kernel
theorem dX0_root_141 : decode cX0_root 141 = .ok (.aload_n 0, 1) := by decide +kernel
theorem dX0_root_142 : decode cX0_root 142 = .ok (.iload_n 1, 1) := by decide +kernel
theorem dX0_root_143 : decode cX0_root 143 = .ok (.invokevirtual 77, 3) := by decide +kernel
theorem dX0_root_146 : decode cX0_root 146 = .ok (.return_, 1) := by decide +kernel
end
section
set_option maxRecDepth 100000
abbrev cX0_gathered : ByteArray := prog_1_method_11_code
def yX0_gathered : MethodName := ⟨RX0, "gathered", "(J)J"⟩
theorem dX0_gathered_0 : decode cX0_gathered 0 = .ok (.lload_n 0, 1) := by decide +kernel
theorem dX0_gathered_1 : decode cX0_gathered 1 = .ok (.ldc2_w 67, 3) := by decide +kernel
theorem dX0_gathered_4 : decode cX0_gathered 4 = .ok (.land, 1) := by decide +kernel
theorem dX0_gathered_5 : decode cX0_gathered 5 = .ok (.lstore_n 2, 1) := by decide +kernel
theorem dX0_gathered_6 : decode cX0_gathered 6 = .ok (.lload_n 2, 1) := by decide +kernel
theorem dX0_gathered_7 : decode cX0_gathered 7 = .ok (.lload_n 2, 1) := by decide +kernel
theorem dX0_gathered_8 : decode cX0_gathered 8 = .ok (.iconst 1, 1) := by decide +kernel
theorem dX0_gathered_9 : decode cX0_gathered 9 = .ok (.lushr, 1) := by decide +kernel
theorem dX0_gathered_10 : decode cX0_gathered 10 = .ok (.lor, 1) := by decide +kernel
theorem dX0_gathered_11 : decode cX0_gathered 11 = .ok (.ldc2_w 65, 3) := by decide +kernel
theorem dX0_gathered_14 : decode cX0_gathered 14 = .ok (.land, 1) := by decide +kernel
theorem dX0_gathered_15 : decode cX0_gathered 15 = .ok (.lstore_n 2, 1) := by decide +kernel
theorem dX0_gathered_16 : decode cX0_gathered 16 = .ok (.lload_n 2, 1) := by decide +kernel
theorem dX0_gathered_17 : decode cX0_gathered 17 = .ok (.lload_n 2, 1) := by decide +kernel
theorem dX0_gathered_18 : decode cX0_gathered 18 = .ok (.iconst 2, 1) := by decide +kernel
theorem dX0_gathered_19 : decode cX0_gathered 19 = .ok (.lushr, 1) := by decide +kernel
theorem dX0_gathered_20 : decode cX0_gathered 20 = .ok (.lor, 1) := by decide +kernel
theorem dX0_gathered_21 : decode cX0_gathered 21 = .ok (.ldc2_w 63, 3) := by decide +kernel
theorem dX0_gathered_24 : decode cX0_gathered 24 = .ok (.land, 1) := by decide +kernel
theorem dX0_gathered_25 : decode cX0_gathered 25 = .ok (.lstore_n 2, 1) := by decide +kernel
theorem dX0_gathered_26 : decode cX0_gathered 26 = .ok (.lload_n 2, 1) := by decide +kernel
theorem dX0_gathered_27 : decode cX0_gathered 27 = .ok (.lload_n 2, 1) := by decide +kernel
theorem dX0_gathered_28 : decode cX0_gathered 28 = .ok (.iconst 4, 1) := by decide +kernel
theorem dX0_gathered_29 : decode cX0_gathered 29 = .ok (.lushr, 1) := by decide +kernel
theorem dX0_gathered_30 : decode cX0_gathered 30 = .ok (.lor, 1) := by decide +kernel
theorem dX0_gathered_31 : decode cX0_gathered 31 = .ok (.ldc2_w 61, 3) := by decide +kernel
theorem dX0_gathered_34 : decode cX0_gathered 34 = .ok (.land, 1) := by decide +kernel
theorem dX0_gathered_35 : decode cX0_gathered 35 = .ok (.lstore_n 2, 1) := by decide +kernel
theorem dX0_gathered_36 : decode cX0_gathered 36 = .ok (.lload_n 2, 1) := by decide +kernel
theorem dX0_gathered_37 : decode cX0_gathered 37 = .ok (.lload_n 2, 1) := by decide +kernel
theorem dX0_gathered_38 : decode cX0_gathered 38 = .ok (.bipush 8, 2) := by decide +kernel
theorem dX0_gathered_40 : decode cX0_gathered 40 = .ok (.lushr, 1) := by decide +kernel
theorem dX0_gathered_41 : decode cX0_gathered 41 = .ok (.lor, 1) := by decide +kernel
theorem dX0_gathered_42 : decode cX0_gathered 42 = .ok (.ldc2_w 59, 3) := by decide +kernel
theorem dX0_gathered_45 : decode cX0_gathered 45 = .ok (.land, 1) := by decide +kernel
theorem dX0_gathered_46 : decode cX0_gathered 46 = .ok (.lstore_n 2, 1) := by decide +kernel
theorem dX0_gathered_47 : decode cX0_gathered 47 = .ok (.lload_n 2, 1) := by decide +kernel
theorem dX0_gathered_48 : decode cX0_gathered 48 = .ok (.lload_n 2, 1) := by decide +kernel
theorem dX0_gathered_49 : decode cX0_gathered 49 = .ok (.bipush 16, 2) := by decide +kernel
theorem dX0_gathered_51 : decode cX0_gathered 51 = .ok (.lushr, 1) := by decide +kernel
theorem dX0_gathered_52 : decode cX0_gathered 52 = .ok (.lor, 1) := by decide +kernel
theorem dX0_gathered_53 : decode cX0_gathered 53 = .ok (.ldc2_w 40, 3) := by decide +kernel
theorem dX0_gathered_56 : decode cX0_gathered 56 = .ok (.land, 1) := by decide +kernel
theorem dX0_gathered_57 : decode cX0_gathered 57 = .ok (.lreturn, 1) := by decide +kernel
abbrev cX0_invert : ByteArray := prog_1_method_23_code
def yX0_invert : MethodName := ⟨RX0, "invert", "(II)Z"⟩
theorem dX0_invert_0 : decode cX0_invert 0 = .ok (.aload_n 0, 1) := by decide +kernel
theorem dX0_invert_1 : decode cX0_invert 1 = .ok (.aload_n 0, 1) := by decide +kernel
theorem dX0_invert_2 : decode cX0_invert 2 = .ok (.getfield 19, 3) := by decide +kernel
theorem dX0_invert_5 : decode cX0_invert 5 = .ok (.iload_n 2, 1) := by decide +kernel
theorem dX0_invert_6 : decode cX0_invert 6 = .ok (.invokevirtual 82, 3) := by decide +kernel
theorem dX0_invert_9 : decode cX0_invert 9 = .ok (.aload_n 0, 1) := by decide +kernel
theorem dX0_invert_10 : decode cX0_invert 10 = .ok (.aload_n 0, 1) := by decide +kernel
theorem dX0_invert_11 : decode cX0_invert 11 = .ok (.getfield 25, 3) := by decide +kernel
theorem dX0_invert_14 : decode cX0_invert 14 = .ok (.iload_n 2, 1) := by decide +kernel
theorem dX0_invert_15 : decode cX0_invert 15 = .ok (.invokevirtual 82, 3) := by decide +kernel
theorem dX0_invert_18 : decode cX0_invert 18 = .ok (.iconst 0, 1) := by decide +kernel
theorem dX0_invert_19 : decode cX0_invert 19 = .ok (.istore_n 3, 1) := by decide +kernel
theorem dX0_invert_20 : decode cX0_invert 20 = .ok (.iconst 0, 1) := by decide +kernel
theorem dX0_invert_21 : decode cX0_invert 21 = .ok (.istore 4, 2) := by decide +kernel
theorem dX0_invert_23 : decode cX0_invert 23 = .ok (.iload 4, 2) := by decide +kernel
theorem dX0_invert_25 : decode cX0_invert 25 = .ok (.iconst 5, 1) := by decide +kernel
theorem dX0_invert_26 : decode cX0_invert 26 = .ok (.if_icmp .ge 31, 3) := by decide +kernel
theorem dX0_invert_29 : decode cX0_invert 29 = .ok (.iload_n 3, 1) := by decide +kernel
theorem dX0_invert_30 : decode cX0_invert 30 = .ok (.ifCond .ne 15, 3) := by decide +kernel
theorem dX0_invert_33 : decode cX0_invert 33 = .ok (.aload_n 0, 1) := by decide +kernel
theorem dX0_invert_34 : decode cX0_invert 34 = .ok (.getfield 19, 3) := by decide +kernel
theorem dX0_invert_37 : decode cX0_invert 37 = .ok (.iload 4, 2) := by decide +kernel
theorem dX0_invert_39 : decode cX0_invert 39 = .ok (.laload, 1) := by decide +kernel
theorem dX0_invert_40 : decode cX0_invert 40 = .ok (.lconst 0, 1) := by decide +kernel
theorem dX0_invert_41 : decode cX0_invert 41 = .ok (.lcmp, 1) := by decide +kernel
theorem dX0_invert_42 : decode cX0_invert 42 = .ok (.ifCond .eq 7, 3) := by decide +kernel
theorem dX0_invert_45 : decode cX0_invert 45 = .ok (.iconst 1, 1) := by decide +kernel
theorem dX0_invert_46 : decode cX0_invert 46 = .ok (.goto 4, 3) := by decide +kernel
theorem dX0_invert_49 : decode cX0_invert 49 = .ok (.iconst 0, 1) := by decide +kernel
theorem dX0_invert_50 : decode cX0_invert 50 = .ok (.istore_n 3, 1) := by decide +kernel
theorem dX0_invert_51 : decode cX0_invert 51 = .ok (.iinc 4 1, 3) := by decide +kernel
theorem dX0_invert_54 : decode cX0_invert 54 = .ok (.goto (-31), 3) := by decide +kernel
theorem dX0_invert_57 : decode cX0_invert 57 = .ok (.iload_n 3, 1) := by decide +kernel
theorem dX0_invert_58 : decode cX0_invert 58 = .ok (.ifCond .ne 5, 3) := by decide +kernel
theorem dX0_invert_61 : decode cX0_invert 61 = .ok (.iconst 0, 1) := by decide +kernel
theorem dX0_invert_62 : decode cX0_invert 62 = .ok (.ireturn, 1) := by decide +kernel
theorem dX0_invert_63 : decode cX0_invert 63 = .ok (.iconst 1, 1) := by decide +kernel
theorem dX0_invert_64 : decode cX0_invert 64 = .ok (.istore 4, 2) := by decide +kernel
theorem dX0_invert_66 : decode cX0_invert 66 = .ok (.bipush 7, 2) := by decide +kernel
theorem dX0_invert_68 : decode cX0_invert 68 = .ok (.istore 5, 2) := by decide +kernel
theorem dX0_invert_70 : decode cX0_invert 70 = .ok (.iload 5, 2) := by decide +kernel
theorem dX0_invert_72 : decode cX0_invert 72 = .ok (.ifCond .lt 85, 3) := by decide +kernel
theorem dX0_invert_75 : decode cX0_invert 75 = .ok (.iconst 0, 1) := by decide +kernel
theorem dX0_invert_76 : decode cX0_invert 76 = .ok (.istore 6, 2) := by decide +kernel
theorem dX0_invert_78 : decode cX0_invert 78 = .ok (.iload 6, 2) := by decide +kernel
theorem dX0_invert_80 : decode cX0_invert 80 = .ok (.iconst 5, 1) := by decide +kernel
theorem dX0_invert_81 : decode cX0_invert 81 = .ok (.if_icmp .ge 23, 3) := by decide +kernel
theorem dX0_invert_84 : decode cX0_invert 84 = .ok (.aload_n 0, 1) := by decide +kernel
theorem dX0_invert_85 : decode cX0_invert 85 = .ok (.getfield 22, 3) := by decide +kernel
theorem dX0_invert_88 : decode cX0_invert 88 = .ok (.iload 6, 2) := by decide +kernel
theorem dX0_invert_90 : decode cX0_invert 90 = .ok (.aload_n 0, 1) := by decide +kernel
theorem dX0_invert_91 : decode cX0_invert 91 = .ok (.getfield 19, 3) := by decide +kernel
theorem dX0_invert_94 : decode cX0_invert 94 = .ok (.iload 6, 2) := by decide +kernel
theorem dX0_invert_96 : decode cX0_invert 96 = .ok (.laload, 1) := by decide +kernel
theorem dX0_invert_97 : decode cX0_invert 97 = .ok (.lastore, 1) := by decide +kernel
theorem dX0_invert_98 : decode cX0_invert 98 = .ok (.iinc 6 1, 3) := by decide +kernel
theorem dX0_invert_101 : decode cX0_invert 101 = .ok (.goto (-23), 3) := by decide +kernel
theorem dX0_invert_104 : decode cX0_invert 104 = .ok (.aload_n 0, 1) := by decide +kernel
theorem dX0_invert_105 : decode cX0_invert 105 = .ok (.iload 4, 2) := by decide +kernel
theorem dX0_invert_107 : decode cX0_invert 107 = .ok (.invokevirtual 90, 3) := by decide +kernel
theorem dX0_invert_110 : decode cX0_invert 110 = .ok (.aload_n 0, 1) := by decide +kernel
theorem dX0_invert_111 : decode cX0_invert 111 = .ok (.aload_n 0, 1) := by decide +kernel
theorem dX0_invert_112 : decode cX0_invert 112 = .ok (.getfield 22, 3) := by decide +kernel
theorem dX0_invert_115 : decode cX0_invert 115 = .ok (.invokevirtual 86, 3) := by decide +kernel
theorem dX0_invert_118 : decode cX0_invert 118 = .ok (.iconst 2, 1) := by decide +kernel
theorem dX0_invert_119 : decode cX0_invert 119 = .ok (.iload 4, 2) := by decide +kernel
theorem dX0_invert_121 : decode cX0_invert 121 = .ok (.imul, 1) := by decide +kernel
theorem dX0_invert_122 : decode cX0_invert 122 = .ok (.istore 4, 2) := by decide +kernel
theorem dX0_invert_124 : decode cX0_invert 124 = .ok (.sipush 282, 3) := by decide +kernel
theorem dX0_invert_127 : decode cX0_invert 127 = .ok (.iload 5, 2) := by decide +kernel
theorem dX0_invert_129 : decode cX0_invert 129 = .ok (.ishr, 1) := by decide +kernel
theorem dX0_invert_130 : decode cX0_invert 130 = .ok (.iconst 1, 1) := by decide +kernel
theorem dX0_invert_131 : decode cX0_invert 131 = .ok (.iand, 1) := by decide +kernel
theorem dX0_invert_132 : decode cX0_invert 132 = .ok (.iconst 1, 1) := by decide +kernel
theorem dX0_invert_133 : decode cX0_invert 133 = .ok (.if_icmp .ne 18, 3) := by decide +kernel
theorem dX0_invert_136 : decode cX0_invert 136 = .ok (.aload_n 0, 1) := by decide +kernel
theorem dX0_invert_137 : decode cX0_invert 137 = .ok (.invokevirtual 33, 3) := by decide +kernel
theorem dX0_invert_140 : decode cX0_invert 140 = .ok (.aload_n 0, 1) := by decide +kernel
theorem dX0_invert_141 : decode cX0_invert 141 = .ok (.aload_n 0, 1) := by decide +kernel
theorem dX0_invert_142 : decode cX0_invert 142 = .ok (.getfield 25, 3) := by decide +kernel
theorem dX0_invert_145 : decode cX0_invert 145 = .ok (.invokevirtual 86, 3) := by decide +kernel
theorem dX0_invert_148 : decode cX0_invert 148 = .ok (.iinc 4 1, 3) := by decide +kernel
theorem dX0_invert_151 : decode cX0_invert 151 = .ok (.iinc 5 (-1), 3) := by decide +kernel
theorem dX0_invert_154 : decode cX0_invert 154 = .ok (.goto (-84), 3) := by decide +kernel
theorem dX0_invert_157 : decode cX0_invert 157 = .ok (.aload_n 0, 1) := by decide +kernel
theorem dX0_invert_158 : decode cX0_invert 158 = .ok (.invokevirtual 33, 3) := by decide +kernel
theorem dX0_invert_161 : decode cX0_invert 161 = .ok (.aload_n 0, 1) := by decide +kernel
theorem dX0_invert_162 : decode cX0_invert 162 = .ok (.iload_n 1, 1) := by decide +kernel
theorem dX0_invert_163 : decode cX0_invert 163 = .ok (.invokevirtual 77, 3) := by decide +kernel
theorem dX0_invert_166 : decode cX0_invert 166 = .ok (.iconst 1, 1) := by decide +kernel
theorem dX0_invert_167 : decode cX0_invert 167 = .ok (.ireturn, 1) := by decide +kernel
abbrev cX0_trace : ByteArray := prog_1_method_24_code
def yX0_trace : MethodName := ⟨RX0, "trace", "(I)I"⟩
theorem dX0_trace_0 : decode cX0_trace 0 = .ok (.aload_n 0, 1) := by decide +kernel
theorem dX0_trace_1 : decode cX0_trace 1 = .ok (.getfield 7, 3) := by decide +kernel
theorem dX0_trace_4 : decode cX0_trace 4 = .ok (.iload_n 1, 1) := by decide +kernel
theorem dX0_trace_5 : decode cX0_trace 5 = .ok (.invokestatic 36, 3) := by decide +kernel
theorem dX0_trace_8 : decode cX0_trace 8 = .ok (.laload, 1) := by decide +kernel
theorem dX0_trace_9 : decode cX0_trace 9 = .ok (.aload_n 0, 1) := by decide +kernel
theorem dX0_trace_10 : decode cX0_trace 10 = .ok (.getfield 7, 3) := by decide +kernel
theorem dX0_trace_13 : decode cX0_trace 13 = .ok (.iload_n 1, 1) := by decide +kernel
theorem dX0_trace_14 : decode cX0_trace 14 = .ok (.invokestatic 36, 3) := by decide +kernel
theorem dX0_trace_17 : decode cX0_trace 17 = .ok (.iconst 4, 1) := by decide +kernel
theorem dX0_trace_18 : decode cX0_trace 18 = .ok (.iadd, 1) := by decide +kernel
theorem dX0_trace_19 : decode cX0_trace 19 = .ok (.laload, 1) := by decide +kernel
theorem dX0_trace_20 : decode cX0_trace 20 = .ok (.bipush 15, 2) := by decide +kernel
theorem dX0_trace_22 : decode cX0_trace 22 = .ok (.lushr, 1) := by decide +kernel
theorem dX0_trace_23 : decode cX0_trace 23 = .ok (.lxor, 1) := by decide +kernel
theorem dX0_trace_24 : decode cX0_trace 24 = .ok (.l2i, 1) := by decide +kernel
theorem dX0_trace_25 : decode cX0_trace 25 = .ok (.iconst 1, 1) := by decide +kernel
theorem dX0_trace_26 : decode cX0_trace 26 = .ok (.iand, 1) := by decide +kernel
theorem dX0_trace_27 : decode cX0_trace 27 = .ok (.ireturn, 1) := by decide +kernel
theorem q11 : (Jvm.Cond.initialized "Field283") ∈ lw_all := lw_g (lw_at lw_m0 1 rfl) rfl
theorem q14 : (Jvm.Cond.instantiable "Field283" (7 : Nat)) ∈ lw_all := lw_g (lw_at lw_m0 4 rfl) rfl
theorem q16 : (Jvm.Cond.instanceMethod ({ cls := "Field283", name := "<init>", desc := "()V" } : Jvm.MethodName)) ∈ lw_all := lw_g (lw_at lw_m0 6 rfl) rfl
theorem q17 : (Jvm.Cond.code ({ cls := "Field283", name := "<init>", desc := "()V" } : Jvm.MethodName) prog_1_method_1_code (2 : Nat) (Option.none : Option Jvm.ClassFile.FieldType)) ∈ lw_all := lw_g (lw_at lw_m0 7 rfl) rfl
theorem q18 : (Jvm.Cond.methodLink "Field283" (1 : Nat) ({ cls := "java/lang/Object", name := "<init>", desc := "()V" } : Jvm.MethodName)) ∈ lw_all := lw_g (lw_at lw_m0 8 rfl) rfl
theorem q21 : (Jvm.Cond.constantLong "Field283" (31 : Nat) (2 : Int64)) ∈ lw_all := lw_g (lw_at lw_m0 11 rfl) rfl
theorem q22 : (Jvm.Cond.methodLink "Field283" (33 : Nat) ({ cls := "Field283", name := "twice", desc := "()V" } : Jvm.MethodName)) ∈ lw_all := lw_g (lw_at lw_m0 12 rfl) rfl
theorem q23 : (Jvm.Cond.privateMethod ({ cls := "Field283", name := "twice", desc := "()V" } : Jvm.MethodName)) ∈ lw_tbl := lw_at lw_m0 13 rfl
theorem q24 : (Jvm.Cond.instanceMethod ({ cls := "Field283", name := "twice", desc := "()V" } : Jvm.MethodName)) ∈ lw_all := lw_g (lw_at lw_m0 14 rfl) rfl
theorem q25 : (Jvm.Cond.code ({ cls := "Field283", name := "twice", desc := "()V" } : Jvm.MethodName) prog_1_method_12_code (2 : Nat) (Option.none : Option Jvm.ClassFile.FieldType)) ∈ lw_all := lw_g (lw_at lw_m0 15 rfl) rfl
theorem q26 : (Jvm.Cond.methodLink "Field283" (69 : Nat) ({ cls := "Field283", name := "spread", desc := "(J)J" } : Jvm.MethodName)) ∈ lw_all := lw_g (lw_at lw_m0 16 rfl) rfl
theorem q27 : (Jvm.Cond.static ({ cls := "Field283", name := "spread", desc := "(J)J" } : Jvm.MethodName)) ∈ lw_all := lw_g (lw_at lw_m0 17 rfl) rfl
theorem q28 : (Jvm.Cond.code ({ cls := "Field283", name := "spread", desc := "(J)J" } : Jvm.MethodName) prog_1_method_10_code (4 : Nat) (Option.some Jvm.ClassFile.FieldType.long)) ∈ lw_all := lw_g (lw_at lw_m0 18 rfl) rfl
theorem q29 : (Jvm.Cond.constantLong "Field283" (40 : Nat) (4294967295 : Int64)) ∈ lw_all := lw_g (lw_at lw_m0 19 rfl) rfl
theorem q30 : (Jvm.Cond.constantLong "Field283" (59 : Nat) (281470681808895 : Int64)) ∈ lw_all := lw_g (lw_at lw_m0 20 rfl) rfl
theorem q31 : (Jvm.Cond.constantLong "Field283" (61 : Nat) (71777214294589695 : Int64)) ∈ lw_all := lw_g (lw_at lw_m0 21 rfl) rfl
theorem q32 : (Jvm.Cond.constantLong "Field283" (63 : Nat) (1085102592571150095 : Int64)) ∈ lw_all := lw_g (lw_at lw_m0 22 rfl) rfl
theorem q33 : (Jvm.Cond.constantLong "Field283" (65 : Nat) (3689348814741910323 : Int64)) ∈ lw_all := lw_g (lw_at lw_m0 23 rfl) rfl
theorem q34 : (Jvm.Cond.constantLong "Field283" (67 : Nat) (6148914691236517205 : Int64)) ∈ lw_all := lw_g (lw_at lw_m0 24 rfl) rfl
theorem q35 : (Jvm.Cond.methodLink "Field283" (54 : Nat) ({ cls := "Field283", name := "reduce", desc := "()V" } : Jvm.MethodName)) ∈ lw_all := lw_g (lw_at lw_m0 25 rfl) rfl
theorem q36 : (Jvm.Cond.privateMethod ({ cls := "Field283", name := "reduce", desc := "()V" } : Jvm.MethodName)) ∈ lw_tbl := lw_at lw_m0 26 rfl
theorem q37 : (Jvm.Cond.instanceMethod ({ cls := "Field283", name := "reduce", desc := "()V" } : Jvm.MethodName)) ∈ lw_all := lw_g (lw_at lw_m0 27 rfl) rfl
theorem q38 : (Jvm.Cond.code ({ cls := "Field283", name := "reduce", desc := "()V" } : Jvm.MethodName) prog_1_method_9_code (4 : Nat) (Option.none : Option Jvm.ClassFile.FieldType)) ∈ lw_all := lw_g (lw_at lw_m0 28 rfl) rfl
theorem q39 : (Jvm.Cond.constantLong "Field283" (57 : Nat) (134217727 : Int64)) ∈ lw_all := lw_g (lw_at lw_m0 29 rfl) rfl
theorem q40 : (Jvm.Cond.fieldLink "Field283" (7 : Nat) "Field283" "register" "[J") ∈ lw_all := lw_g (lw_at lw_m0 30 rfl) rfl
theorem q41 : (Jvm.Cond.fieldLink "Field283" (13 : Nat) "Field283" "line" "[J") ∈ lw_all := lw_g (lw_at lw_m0 31 rfl) rfl
theorem q42 : (Jvm.Cond.fieldLink "Field283" (16 : Nat) "Field283" "wide" "[J") ∈ lw_all := lw_g (lw_at lw_m0 32 rfl) rfl
theorem q43 : (Jvm.Cond.fieldLink "Field283" (19 : Nat) "Field283" "a" "[J") ∈ lw_all := lw_g (lw_at lw_m0 33 rfl) rfl
theorem q44 : (Jvm.Cond.fieldLink "Field283" (22 : Nat) "Field283" "b" "[J") ∈ lw_all := lw_g (lw_at lw_m0 34 rfl) rfl
theorem q45 : (Jvm.Cond.fieldLink "Field283" (25 : Nat) "Field283" "c" "[J") ∈ lw_all := lw_g (lw_at lw_m0 35 rfl) rfl
theorem q46 : (Jvm.Cond.fieldLink "Field283" (28 : Nat) "Field283" "rootOfX" "[J") ∈ lw_all := lw_g (lw_at lw_m0 36 rfl) rfl
theorem q47 : (Jvm.Cond.laysFinal "Field283" "Field283" "register" "[J") ∈ lw_all := lw_g (lw_at lw_m0 37 rfl) rfl
theorem q48 : (Jvm.Cond.soleField "Field283" "register") ∈ lw_all := lw_g (lw_at lw_m0 38 rfl) rfl
theorem q49 : (Jvm.Cond.laysFinal "Field283" "Field283" "line" "[J") ∈ lw_all := lw_g (lw_at lw_m0 39 rfl) rfl
theorem q50 : (Jvm.Cond.soleField "Field283" "line") ∈ lw_all := lw_g (lw_at lw_m0 40 rfl) rfl
theorem q51 : (Jvm.Cond.laysFinal "Field283" "Field283" "wide" "[J") ∈ lw_all := lw_g (lw_at lw_m0 41 rfl) rfl
theorem q52 : (Jvm.Cond.soleField "Field283" "wide") ∈ lw_all := lw_g (lw_at lw_m0 42 rfl) rfl
theorem q53 : (Jvm.Cond.laysFinal "Field283" "Field283" "a" "[J") ∈ lw_all := lw_g (lw_at lw_m0 43 rfl) rfl
theorem q54 : (Jvm.Cond.soleField "Field283" "a") ∈ lw_all := lw_g (lw_at lw_m0 44 rfl) rfl
theorem q55 : (Jvm.Cond.laysFinal "Field283" "Field283" "b" "[J") ∈ lw_all := lw_g (lw_at lw_m0 45 rfl) rfl
theorem q56 : (Jvm.Cond.soleField "Field283" "b") ∈ lw_all := lw_g (lw_at lw_m0 46 rfl) rfl
theorem q57 : (Jvm.Cond.laysFinal "Field283" "Field283" "c" "[J") ∈ lw_all := lw_g (lw_at lw_m0 47 rfl) rfl
theorem q58 : (Jvm.Cond.soleField "Field283" "c") ∈ lw_all := lw_g (lw_at lw_m0 48 rfl) rfl
theorem q59 : (Jvm.Cond.laysFinal "Field283" "Field283" "rootOfX" "[J") ∈ lw_all := lw_g (lw_at lw_m0 49 rfl) rfl
theorem q60 : (Jvm.Cond.soleField "Field283" "rootOfX") ∈ lw_all := lw_g (lw_at lw_m0 50 rfl) rfl
theorem q61 : (Jvm.Cond.superclass "Field283" "java/lang/Object") ∈ lw_all := lw_g (lw_at lw_m0 51 rfl) rfl
theorem q64 : (Jvm.Cond.instanceMethod ({ cls := "Field283", name := "line", desc := "(IIIII)V" } : Jvm.MethodName)) ∈ lw_all := lw_g (lw_at lw_m0 54 rfl) rfl
theorem q65 : (Jvm.Cond.selects "Field283" ({ cls := "Field283", name := "line", desc := "(IIIII)V" } : Jvm.MethodName) ({ cls := "Field283", name := "line", desc := "(IIIII)V" } : Jvm.MethodName)) ∈ lw_all := lw_g (lw_at lw_m0 55 rfl) rfl
theorem q66 : (Jvm.Cond.code ({ cls := "Field283", name := "line", desc := "(IIIII)V" } : Jvm.MethodName) prog_1_method_14_code (7 : Nat) (Option.none : Option Jvm.ClassFile.FieldType)) ∈ lw_all := lw_g (lw_at lw_m0 56 rfl) rfl
theorem q67 : (Jvm.Cond.constant "Field283" (72 : Nat) (2147483647 : Int32)) ∈ lw_all := lw_g (lw_at lw_m0 57 rfl) rfl
theorem q68 : (Jvm.Cond.methodLink "Field283" (73 : Nat) ({ cls := "Field283", name := "both", desc := "(II)J" } : Jvm.MethodName)) ∈ lw_all := lw_g (lw_at lw_m0 58 rfl) rfl
theorem q69 : (Jvm.Cond.static ({ cls := "Field283", name := "both", desc := "(II)J" } : Jvm.MethodName)) ∈ lw_all := lw_g (lw_at lw_m0 59 rfl) rfl
theorem q70 : (Jvm.Cond.code ({ cls := "Field283", name := "both", desc := "(II)J" } : Jvm.MethodName) prog_1_method_5_code (2 : Nat) (Option.some Jvm.ClassFile.FieldType.long)) ∈ lw_all := lw_g (lw_at lw_m0 60 rfl) rfl
theorem q72 : (Jvm.Cond.instanceMethod ({ cls := "Field283", name := "load", desc := "(I)V" } : Jvm.MethodName)) ∈ lw_all := lw_g (lw_at lw_m0 62 rfl) rfl
theorem q73 : (Jvm.Cond.selects "Field283" ({ cls := "Field283", name := "load", desc := "(I)V" } : Jvm.MethodName) ({ cls := "Field283", name := "load", desc := "(I)V" } : Jvm.MethodName)) ∈ lw_all := lw_g (lw_at lw_m0 63 rfl) rfl
theorem q74 : (Jvm.Cond.code ({ cls := "Field283", name := "load", desc := "(I)V" } : Jvm.MethodName) prog_1_method_15_code (3 : Nat) (Option.none : Option Jvm.ClassFile.FieldType)) ∈ lw_all := lw_g (lw_at lw_m0 64 rfl) rfl
theorem q75 : (Jvm.Cond.methodLink "Field283" (77 : Nat) ({ cls := "Field283", name := "set", desc := "(I)V" } : Jvm.MethodName)) ∈ lw_all := lw_g (lw_at lw_m0 65 rfl) rfl
theorem q76 : (Jvm.Cond.privateMethod ({ cls := "Field283", name := "set", desc := "(I)V" } : Jvm.MethodName)) ∈ lw_tbl := lw_at lw_m0 66 rfl
theorem q77 : (Jvm.Cond.instanceMethod ({ cls := "Field283", name := "set", desc := "(I)V" } : Jvm.MethodName)) ∈ lw_all := lw_g (lw_at lw_m0 67 rfl) rfl
theorem q78 : (Jvm.Cond.code ({ cls := "Field283", name := "set", desc := "(I)V" } : Jvm.MethodName) prog_1_method_4_code (3 : Nat) (Option.none : Option Jvm.ClassFile.FieldType)) ∈ lw_all := lw_g (lw_at lw_m0 68 rfl) rfl
theorem q79 : (Jvm.Cond.methodLink "Field283" (36 : Nat) ({ cls := "Field283", name := "at", desc := "(I)I" } : Jvm.MethodName)) ∈ lw_all := lw_g (lw_at lw_m0 69 rfl) rfl
theorem q80 : (Jvm.Cond.static ({ cls := "Field283", name := "at", desc := "(I)I" } : Jvm.MethodName)) ∈ lw_all := lw_g (lw_at lw_m0 70 rfl) rfl
theorem q81 : (Jvm.Cond.code ({ cls := "Field283", name := "at", desc := "(I)I" } : Jvm.MethodName) prog_1_method_2_code (1 : Nat) (Option.some Jvm.ClassFile.FieldType.int)) ∈ lw_all := lw_g (lw_at lw_m0 71 rfl) rfl
theorem q83 : (Jvm.Cond.instanceMethod ({ cls := "Field283", name := "word", desc := "(II)I" } : Jvm.MethodName)) ∈ lw_all := lw_g (lw_at lw_m0 73 rfl) rfl
theorem q84 : (Jvm.Cond.selects "Field283" ({ cls := "Field283", name := "word", desc := "(II)I" } : Jvm.MethodName) ({ cls := "Field283", name := "word", desc := "(II)I" } : Jvm.MethodName)) ∈ lw_all := lw_g (lw_at lw_m0 74 rfl) rfl
theorem q85 : (Jvm.Cond.code ({ cls := "Field283", name := "word", desc := "(II)I" } : Jvm.MethodName) prog_1_method_16_code (5 : Nat) (Option.some Jvm.ClassFile.FieldType.int)) ∈ lw_all := lw_g (lw_at lw_m0 75 rfl) rfl
theorem q86 : (Jvm.Cond.constant "Field283" (81 : Nat) (1073741823 : Int32)) ∈ lw_all := lw_g (lw_at lw_m0 76 rfl) rfl
theorem q88 : (Jvm.Cond.instanceMethod ({ cls := "Field283", name := "add", desc := "(III)V" } : Jvm.MethodName)) ∈ lw_all := lw_g (lw_at lw_m0 78 rfl) rfl
theorem q89 : (Jvm.Cond.selects "Field283" ({ cls := "Field283", name := "add", desc := "(III)V" } : Jvm.MethodName) ({ cls := "Field283", name := "add", desc := "(III)V" } : Jvm.MethodName)) ∈ lw_all := lw_g (lw_at lw_m0 79 rfl) rfl
theorem q90 : (Jvm.Cond.code ({ cls := "Field283", name := "add", desc := "(III)V" } : Jvm.MethodName) prog_1_method_17_code (5 : Nat) (Option.none : Option Jvm.ClassFile.FieldType)) ∈ lw_all := lw_g (lw_at lw_m0 80 rfl) rfl
theorem q91 : (Jvm.Cond.methodLink "Field283" (82 : Nat) ({ cls := "Field283", name := "get", desc := "([JI)V" } : Jvm.MethodName)) ∈ lw_all := lw_g (lw_at lw_m0 81 rfl) rfl
theorem q92 : (Jvm.Cond.privateMethod ({ cls := "Field283", name := "get", desc := "([JI)V" } : Jvm.MethodName)) ∈ lw_tbl := lw_at lw_m0 82 rfl
theorem q93 : (Jvm.Cond.instanceMethod ({ cls := "Field283", name := "get", desc := "([JI)V" } : Jvm.MethodName)) ∈ lw_all := lw_g (lw_at lw_m0 83 rfl) rfl
theorem q94 : (Jvm.Cond.code ({ cls := "Field283", name := "get", desc := "([JI)V" } : Jvm.MethodName) prog_1_method_3_code (4 : Nat) (Option.none : Option Jvm.ClassFile.FieldType)) ∈ lw_all := lw_g (lw_at lw_m0 84 rfl) rfl
theorem q96 : (Jvm.Cond.instanceMethod ({ cls := "Field283", name := "addOne", desc := "(II)V" } : Jvm.MethodName)) ∈ lw_all := lw_g (lw_at lw_m0 86 rfl) rfl
theorem q97 : (Jvm.Cond.selects "Field283" ({ cls := "Field283", name := "addOne", desc := "(II)V" } : Jvm.MethodName) ({ cls := "Field283", name := "addOne", desc := "(II)V" } : Jvm.MethodName)) ∈ lw_all := lw_g (lw_at lw_m0 87 rfl) rfl
theorem q98 : (Jvm.Cond.code ({ cls := "Field283", name := "addOne", desc := "(II)V" } : Jvm.MethodName) prog_1_method_18_code (3 : Nat) (Option.none : Option Jvm.ClassFile.FieldType)) ∈ lw_all := lw_g (lw_at lw_m0 88 rfl) rfl
theorem q100 : (Jvm.Cond.instanceMethod ({ cls := "Field283", name := "multiply", desc := "(III)V" } : Jvm.MethodName)) ∈ lw_all := lw_g (lw_at lw_m0 90 rfl) rfl
theorem q101 : (Jvm.Cond.selects "Field283" ({ cls := "Field283", name := "multiply", desc := "(III)V" } : Jvm.MethodName) ({ cls := "Field283", name := "multiply", desc := "(III)V" } : Jvm.MethodName)) ∈ lw_all := lw_g (lw_at lw_m0 91 rfl) rfl
theorem q102 : (Jvm.Cond.code ({ cls := "Field283", name := "multiply", desc := "(III)V" } : Jvm.MethodName) prog_1_method_19_code (4 : Nat) (Option.none : Option Jvm.ClassFile.FieldType)) ∈ lw_all := lw_g (lw_at lw_m0 92 rfl) rfl
theorem q103 : (Jvm.Cond.methodLink "Field283" (86 : Nat) ({ cls := "Field283", name := "times", desc := "([J)V" } : Jvm.MethodName)) ∈ lw_all := lw_g (lw_at lw_m0 93 rfl) rfl
theorem q104 : (Jvm.Cond.privateMethod ({ cls := "Field283", name := "times", desc := "([J)V" } : Jvm.MethodName)) ∈ lw_tbl := lw_at lw_m0 94 rfl
theorem q105 : (Jvm.Cond.instanceMethod ({ cls := "Field283", name := "times", desc := "([J)V" } : Jvm.MethodName)) ∈ lw_all := lw_g (lw_at lw_m0 95 rfl) rfl
theorem q106 : (Jvm.Cond.code ({ cls := "Field283", name := "times", desc := "([J)V" } : Jvm.MethodName) prog_1_method_8_code (8 : Nat) (Option.none : Option Jvm.ClassFile.FieldType)) ∈ lw_all := lw_g (lw_at lw_m0 96 rfl) rfl
theorem q107 : (Jvm.Cond.methodLink "Field283" (46 : Nat) ({ cls := "Field283", name := "turned", desc := "(J)J" } : Jvm.MethodName)) ∈ lw_all := lw_g (lw_at lw_m0 97 rfl) rfl
theorem q108 : (Jvm.Cond.static ({ cls := "Field283", name := "turned", desc := "(J)J" } : Jvm.MethodName)) ∈ lw_all := lw_g (lw_at lw_m0 98 rfl) rfl
theorem q109 : (Jvm.Cond.code ({ cls := "Field283", name := "turned", desc := "(J)J" } : Jvm.MethodName) prog_1_method_7_code (7 : Nat) (Option.some Jvm.ClassFile.FieldType.long)) ∈ lw_all := lw_g (lw_at lw_m0 99 rfl) rfl
theorem q110 : (Jvm.Cond.constantLong "Field283" (44 : Nat) (-1 : Int64)) ∈ lw_all := lw_g (lw_at lw_m0 100 rfl) rfl
theorem q111 : (Jvm.Cond.methodLink "Field283" (50 : Nat) ({ cls := "Field283", name := "low", desc := "(JJ)J" } : Jvm.MethodName)) ∈ lw_all := lw_g (lw_at lw_m0 101 rfl) rfl
theorem q112 : (Jvm.Cond.static ({ cls := "Field283", name := "low", desc := "(JJ)J" } : Jvm.MethodName)) ∈ lw_all := lw_g (lw_at lw_m0 102 rfl) rfl
theorem q113 : (Jvm.Cond.code ({ cls := "Field283", name := "low", desc := "(JJ)J" } : Jvm.MethodName) prog_1_method_6_code (10 : Nat) (Option.some Jvm.ClassFile.FieldType.long)) ∈ lw_all := lw_g (lw_at lw_m0 103 rfl) rfl
theorem q114 : (Jvm.Cond.constantLong "Field283" (42 : Nat) (1229782938247303441 : Int64)) ∈ lw_all := lw_g (lw_at lw_m0 104 rfl) rfl
theorem q116 : (Jvm.Cond.instanceMethod ({ cls := "Field283", name := "square", desc := "(II)V" } : Jvm.MethodName)) ∈ lw_all := lw_g (lw_at lw_m0 106 rfl) rfl
theorem q117 : (Jvm.Cond.selects "Field283" ({ cls := "Field283", name := "square", desc := "(II)V" } : Jvm.MethodName) ({ cls := "Field283", name := "square", desc := "(II)V" } : Jvm.MethodName)) ∈ lw_all := lw_g (lw_at lw_m0 107 rfl) rfl
theorem q118 : (Jvm.Cond.code ({ cls := "Field283", name := "square", desc := "(II)V" } : Jvm.MethodName) prog_1_method_20_code (3 : Nat) (Option.none : Option Jvm.ClassFile.FieldType)) ∈ lw_all := lw_g (lw_at lw_m0 108 rfl) rfl
theorem q120 : (Jvm.Cond.instanceMethod ({ cls := "Field283", name := "squares", desc := "(III)V" } : Jvm.MethodName)) ∈ lw_all := lw_g (lw_at lw_m0 110 rfl) rfl
theorem q121 : (Jvm.Cond.selects "Field283" ({ cls := "Field283", name := "squares", desc := "(III)V" } : Jvm.MethodName) ({ cls := "Field283", name := "squares", desc := "(III)V" } : Jvm.MethodName)) ∈ lw_all := lw_g (lw_at lw_m0 111 rfl) rfl
theorem q122 : (Jvm.Cond.code ({ cls := "Field283", name := "squares", desc := "(III)V" } : Jvm.MethodName) prog_1_method_21_code (4 : Nat) (Option.none : Option Jvm.ClassFile.FieldType)) ∈ lw_all := lw_g (lw_at lw_m0 112 rfl) rfl
theorem q123 : (Jvm.Cond.methodLink "Field283" (90 : Nat) ({ cls := "Field283", name := "often", desc := "(I)V" } : Jvm.MethodName)) ∈ lw_all := lw_g (lw_at lw_m0 113 rfl) rfl
theorem q124 : (Jvm.Cond.privateMethod ({ cls := "Field283", name := "often", desc := "(I)V" } : Jvm.MethodName)) ∈ lw_tbl := lw_at lw_m0 114 rfl
theorem q125 : (Jvm.Cond.instanceMethod ({ cls := "Field283", name := "often", desc := "(I)V" } : Jvm.MethodName)) ∈ lw_all := lw_g (lw_at lw_m0 115 rfl) rfl
theorem q126 : (Jvm.Cond.code ({ cls := "Field283", name := "often", desc := "(I)V" } : Jvm.MethodName) prog_1_method_13_code (3 : Nat) (Option.none : Option Jvm.ClassFile.FieldType)) ∈ lw_all := lw_g (lw_at lw_m0 116 rfl) rfl
theorem q128 : (Jvm.Cond.instanceMethod ({ cls := "Field283", name := "root", desc := "(II)V" } : Jvm.MethodName)) ∈ lw_all := lw_g (lw_at lw_m0 118 rfl) rfl
theorem q129 : (Jvm.Cond.selects "Field283" ({ cls := "Field283", name := "root", desc := "(II)V" } : Jvm.MethodName) ({ cls := "Field283", name := "root", desc := "(II)V" } : Jvm.MethodName)) ∈ lw_all := lw_g (lw_at lw_m0 119 rfl) rfl
theorem q130 : (Jvm.Cond.code ({ cls := "Field283", name := "root", desc := "(II)V" } : Jvm.MethodName) prog_1_method_22_code (4 : Nat) (Option.none : Option Jvm.ClassFile.FieldType)) ∈ lw_all := lw_g (lw_at lw_m0 120 rfl) rfl
theorem q131 : (Jvm.Cond.methodLink "Field283" (93 : Nat) ({ cls := "Field283", name := "gathered", desc := "(J)J" } : Jvm.MethodName)) ∈ lw_all := lw_g (lw_at lw_m0 121 rfl) rfl
theorem q132 : (Jvm.Cond.static ({ cls := "Field283", name := "gathered", desc := "(J)J" } : Jvm.MethodName)) ∈ lw_all := lw_g (lw_at lw_m0 122 rfl) rfl
theorem q133 : (Jvm.Cond.code ({ cls := "Field283", name := "gathered", desc := "(J)J" } : Jvm.MethodName) prog_1_method_11_code (4 : Nat) (Option.some Jvm.ClassFile.FieldType.long)) ∈ lw_all := lw_g (lw_at lw_m0 123 rfl) rfl
theorem q135 : (Jvm.Cond.instanceMethod ({ cls := "Field283", name := "invert", desc := "(II)Z" } : Jvm.MethodName)) ∈ lw_all := lw_g (lw_at lw_m0 125 rfl) rfl
theorem q136 : (Jvm.Cond.selects "Field283" ({ cls := "Field283", name := "invert", desc := "(II)Z" } : Jvm.MethodName) ({ cls := "Field283", name := "invert", desc := "(II)Z" } : Jvm.MethodName)) ∈ lw_all := lw_g (lw_at lw_m0 126 rfl) rfl
theorem q137 : (Jvm.Cond.code ({ cls := "Field283", name := "invert", desc := "(II)Z" } : Jvm.MethodName) prog_1_method_23_code (7 : Nat) (Option.some Jvm.ClassFile.FieldType.boolean)) ∈ lw_all := lw_g (lw_at lw_m0 127 rfl) rfl
theorem q139 : (Jvm.Cond.instanceMethod ({ cls := "Field283", name := "trace", desc := "(I)I" } : Jvm.MethodName)) ∈ lw_all := lw_g (lw_at lw_m0 129 rfl) rfl
theorem q140 : (Jvm.Cond.selects "Field283" ({ cls := "Field283", name := "trace", desc := "(I)I" } : Jvm.MethodName) ({ cls := "Field283", name := "trace", desc := "(I)I" } : Jvm.MethodName)) ∈ lw_all := lw_g (lw_at lw_m0 130 rfl) rfl
theorem q141 : (Jvm.Cond.code ({ cls := "Field283", name := "trace", desc := "(I)I" } : Jvm.MethodName) prog_1_method_24_code (2 : Nat) (Option.some Jvm.ClassFile.FieldType.int)) ∈ lw_all := lw_g (lw_at lw_m0 131 rfl) rfl
theorem in_X0 : ∀ w ∈ wsX00, w ∈ lw_all := lw_in wsX00 [47, 49, 51, 53, 55, 57, 59] (by decide +kernel) (by decide +kernel)
end
section
set_option maxRecDepth 100000
/-! java/lang/Object -/
def RJ0 : String := "java/lang/Object"
abbrev cJ0_init : ByteArray := object_method_1_code
def yJ0_init : MethodName := ⟨RJ0, "<init>", "()V"⟩
theorem dJ0_init_0 : decode cJ0_init 0 = .ok (.return_, 1) := by decide +kernel
theorem q19 : (Jvm.Cond.instanceMethod ({ cls := "java/lang/Object", name := "<init>", desc := "()V" } : Jvm.MethodName)) ∈ lw_all := lw_g (lw_at lw_m0 9 rfl) rfl
theorem q20 : (Jvm.Cond.code ({ cls := "java/lang/Object", name := "<init>", desc := "()V" } : Jvm.MethodName) object_method_1_code (1 : Nat) (Option.none : Option Jvm.ClassFile.FieldType)) ∈ lw_all := lw_g (lw_at lw_m0 10 rfl) rfl

theorem q10 : (Jvm.Cond.initialized "Field283Law") ∈ lw_all := lw_g (lw_at lw_m0 0 rfl) rfl
theorem q13 : (Jvm.Cond.classLink "Field283Law" (7 : Nat) "Field283") ∈ lw_all := lw_g (lw_at lw_m0 3 rfl) rfl
theorem q15 : (Jvm.Cond.methodLink "Field283Law" (9 : Nat) ({ cls := "Field283", name := "<init>", desc := "()V" } : Jvm.MethodName)) ∈ lw_all := lw_g (lw_at lw_m0 5 rfl) rfl
theorem q63 : (Jvm.Cond.methodLink "Field283Law" (13 : Nat) ({ cls := "Field283", name := "line", desc := "(IIIII)V" } : Jvm.MethodName)) ∈ lw_all := lw_g (lw_at lw_m0 53 rfl) rfl
theorem q71 : (Jvm.Cond.methodLink "Field283Law" (18 : Nat) ({ cls := "Field283", name := "load", desc := "(I)V" } : Jvm.MethodName)) ∈ lw_all := lw_g (lw_at lw_m0 61 rfl) rfl
theorem q82 : (Jvm.Cond.methodLink "Field283Law" (23 : Nat) ({ cls := "Field283", name := "word", desc := "(II)I" } : Jvm.MethodName)) ∈ lw_all := lw_g (lw_at lw_m0 72 rfl) rfl
theorem q87 : (Jvm.Cond.methodLink "Field283Law" (28 : Nat) ({ cls := "Field283", name := "add", desc := "(III)V" } : Jvm.MethodName)) ∈ lw_all := lw_g (lw_at lw_m0 77 rfl) rfl
theorem q95 : (Jvm.Cond.methodLink "Field283Law" (33 : Nat) ({ cls := "Field283", name := "addOne", desc := "(II)V" } : Jvm.MethodName)) ∈ lw_all := lw_g (lw_at lw_m0 85 rfl) rfl
theorem q99 : (Jvm.Cond.methodLink "Field283Law" (38 : Nat) ({ cls := "Field283", name := "multiply", desc := "(III)V" } : Jvm.MethodName)) ∈ lw_all := lw_g (lw_at lw_m0 89 rfl) rfl
theorem q115 : (Jvm.Cond.methodLink "Field283Law" (42 : Nat) ({ cls := "Field283", name := "square", desc := "(II)V" } : Jvm.MethodName)) ∈ lw_all := lw_g (lw_at lw_m0 105 rfl) rfl
theorem q119 : (Jvm.Cond.methodLink "Field283Law" (46 : Nat) ({ cls := "Field283", name := "squares", desc := "(III)V" } : Jvm.MethodName)) ∈ lw_all := lw_g (lw_at lw_m0 109 rfl) rfl
theorem q127 : (Jvm.Cond.methodLink "Field283Law" (50 : Nat) ({ cls := "Field283", name := "root", desc := "(II)V" } : Jvm.MethodName)) ∈ lw_all := lw_g (lw_at lw_m0 117 rfl) rfl
theorem q134 : (Jvm.Cond.methodLink "Field283Law" (54 : Nat) ({ cls := "Field283", name := "invert", desc := "(II)Z" } : Jvm.MethodName)) ∈ lw_all := lw_g (lw_at lw_m0 124 rfl) rfl
theorem q138 : (Jvm.Cond.methodLink "Field283Law" (59 : Nat) ({ cls := "Field283", name := "trace", desc := "(I)I" } : Jvm.MethodName)) ∈ lw_all := lw_g (lw_at lw_m0 128 rfl) rfl
theorem q142 : (Jvm.Cond.classLink "Field283Law" (10 : Nat) "Field283Model") ∈ lw_all := lw_g (lw_at lw_m0 132 rfl) rfl
theorem q144 : (Jvm.Cond.methodLink "Field283Law" (12 : Nat) ({ cls := "Field283Model", name := "<init>", desc := "()V" } : Jvm.MethodName)) ∈ lw_all := lw_g (lw_at lw_m0 134 rfl) rfl
theorem q167 : (Jvm.Cond.methodLink "Field283Law" (17 : Nat) ({ cls := "Field283Model", name := "line", desc := "(IIIII)V" } : Jvm.MethodName)) ∈ lw_all := lw_g (lw_at lw_m0 157 rfl) rfl
theorem q173 : (Jvm.Cond.methodLink "Field283Law" (22 : Nat) ({ cls := "Field283Model", name := "load", desc := "(I)V" } : Jvm.MethodName)) ∈ lw_all := lw_g (lw_at lw_m0 163 rfl) rfl
theorem q185 : (Jvm.Cond.methodLink "Field283Law" (27 : Nat) ({ cls := "Field283Model", name := "word", desc := "(II)I" } : Jvm.MethodName)) ∈ lw_all := lw_g (lw_at lw_m0 175 rfl) rfl
theorem q190 : (Jvm.Cond.methodLink "Field283Law" (32 : Nat) ({ cls := "Field283Model", name := "add", desc := "(III)V" } : Jvm.MethodName)) ∈ lw_all := lw_g (lw_at lw_m0 180 rfl) rfl
theorem q198 : (Jvm.Cond.methodLink "Field283Law" (37 : Nat) ({ cls := "Field283Model", name := "addOne", desc := "(II)V" } : Jvm.MethodName)) ∈ lw_all := lw_g (lw_at lw_m0 188 rfl) rfl
theorem q205 : (Jvm.Cond.methodLink "Field283Law" (41 : Nat) ({ cls := "Field283Model", name := "multiply", desc := "(III)V" } : Jvm.MethodName)) ∈ lw_all := lw_g (lw_at lw_m0 195 rfl) rfl
theorem q216 : (Jvm.Cond.methodLink "Field283Law" (45 : Nat) ({ cls := "Field283Model", name := "square", desc := "(II)V" } : Jvm.MethodName)) ∈ lw_all := lw_g (lw_at lw_m0 206 rfl) rfl
theorem q228 : (Jvm.Cond.methodLink "Field283Law" (49 : Nat) ({ cls := "Field283Model", name := "squares", desc := "(III)V" } : Jvm.MethodName)) ∈ lw_all := lw_g (lw_at lw_m0 218 rfl) rfl
theorem q229 : (Jvm.Cond.methodLink "Field283Law" (53 : Nat) ({ cls := "Field283Model", name := "root", desc := "(II)V" } : Jvm.MethodName)) ∈ lw_all := lw_g (lw_at lw_m0 219 rfl) rfl
theorem q233 : (Jvm.Cond.methodLink "Field283Law" (58 : Nat) ({ cls := "Field283Model", name := "invert", desc := "(II)Z" } : Jvm.MethodName)) ∈ lw_all := lw_g (lw_at lw_m0 223 rfl) rfl
theorem q237 : (Jvm.Cond.methodLink "Field283Law" (63 : Nat) ({ cls := "Field283Model", name := "trace", desc := "(I)I" } : Jvm.MethodName)) ∈ lw_all := lw_g (lw_at lw_m0 227 rfl) rfl

theorem q62 : (Jvm.Cond.arrayClass Jvm.ClassFile.FieldType.long) ∈ lw_all := lw_g (lw_at lw_m0 52 rfl) rfl
end
section
set_option maxRecDepth 100000
/-! Field283Model -/
def RX1 : String := "Field283Model"
def TX1 : u_T := fun k => match k with
  | 0 => ("Field283Model", "file", "[J", true)
  | 1 => ("Field283Model", "line", "[J", true)
  | 2 => ("Field283Model", "x", "[J", true)
  | 3 => ("Field283Model", "y", "[J", true)
  | 4 => ("Field283Model", "z", "[J", true)
  | _ => ("Field283Model", "a", "[J", true)
def tyX1 : Nat → FieldType := fun k => match k with
  | 0 => .array .long
  | 1 => .array .long
  | 2 => .array .long
  | 3 => .array .long
  | 4 => .array .long
  | _ => .array .long
abbrev wsX10 : List Cond := u_ws RX1 TX1 6
theorem nmX1 : ∀ a, a < 6 → ∀ b, b < 6 → a ≠ b → (TX1 a).2.1 ≠ (TX1 b).2.1 := by decide +kernel
theorem tyX1_ok : ∀ k, k < 6 → parseFieldDescriptor (TX1 k).2.2.1 = some (tyX1 k) := by decide +kernel
abbrev cX1_init : ByteArray := prog_3_method_1_code
def yX1_init : MethodName := ⟨RX1, "<init>", "()V"⟩
theorem dX1_init_0 : decode cX1_init 0 = .ok (.aload_n 0, 1) := by decide +kernel
theorem dX1_init_1 : decode cX1_init 1 = .ok (.invokespecial 1, 3) := by decide +kernel
theorem dX1_init_4 : decode cX1_init 4 = .ok (.aload_n 0, 1) := by decide +kernel
theorem dX1_init_5 : decode cX1_init 5 = .ok (.bipush 20, 2) := by decide +kernel
theorem dX1_init_7 : decode cX1_init 7 = .ok (.newarray .long, 2) := by decide +kernel
theorem dX1_init_9 : decode cX1_init 9 = .ok (.putfield 7, 3) := by decide +kernel
theorem dX1_init_12 : decode cX1_init 12 = .ok (.aload_n 0, 1) := by decide +kernel
theorem dX1_init_13 : decode cX1_init 13 = .ok (.iconst 5, 1) := by decide +kernel
theorem dX1_init_14 : decode cX1_init 14 = .ok (.newarray .long, 2) := by decide +kernel
theorem dX1_init_16 : decode cX1_init 16 = .ok (.putfield 13, 3) := by decide +kernel
theorem dX1_init_19 : decode cX1_init 19 = .ok (.aload_n 0, 1) := by decide +kernel
theorem dX1_init_20 : decode cX1_init 20 = .ok (.iconst 5, 1) := by decide +kernel
theorem dX1_init_21 : decode cX1_init 21 = .ok (.newarray .long, 2) := by decide +kernel
theorem dX1_init_23 : decode cX1_init 23 = .ok (.putfield 16, 3) := by decide +kernel
theorem dX1_init_26 : decode cX1_init 26 = .ok (.aload_n 0, 1) := by decide +kernel
theorem dX1_init_27 : decode cX1_init 27 = .ok (.iconst 5, 1) := by decide +kernel
theorem dX1_init_28 : decode cX1_init 28 = .ok (.newarray .long, 2) := by decide +kernel
theorem dX1_init_30 : decode cX1_init 30 = .ok (.putfield 19, 3) := by decide +kernel
theorem dX1_init_33 : decode cX1_init 33 = .ok (.aload_n 0, 1) := by decide +kernel
theorem dX1_init_34 : decode cX1_init 34 = .ok (.iconst 5, 1) := by decide +kernel
theorem dX1_init_35 : decode cX1_init 35 = .ok (.newarray .long, 2) := by decide +kernel
theorem dX1_init_37 : decode cX1_init 37 = .ok (.putfield 22, 3) := by decide +kernel
theorem dX1_init_40 : decode cX1_init 40 = .ok (.aload_n 0, 1) := by decide +kernel
theorem dX1_init_41 : decode cX1_init 41 = .ok (.iconst 5, 1) := by decide +kernel
theorem dX1_init_42 : decode cX1_init 42 = .ok (.newarray .long, 2) := by decide +kernel
theorem dX1_init_44 : decode cX1_init 44 = .ok (.putfield 25, 3) := by decide +kernel
theorem dX1_init_47 : decode cX1_init 47 = .ok (.return_, 1) := by decide +kernel
abbrev cX1_line : ByteArray := prog_3_method_2_code
def yX1_line : MethodName := ⟨RX1, "line", "(IIIII)V"⟩
theorem dX1_line_0 : decode cX1_line 0 = .ok (.iload_n 1, 1) := by decide +kernel
theorem dX1_line_1 : decode cX1_line 1 = .ok (.ldc 28, 2) := by decide +kernel
theorem dX1_line_3 : decode cX1_line 3 = .ok (.iand, 1) := by decide +kernel
theorem dX1_line_4 : decode cX1_line 4 = .ok (.iconst 5, 1) := by decide +kernel
theorem dX1_line_5 : decode cX1_line 5 = .ok (.irem, 1) := by decide +kernel
theorem dX1_line_6 : decode cX1_line 6 = .ok (.istore 6, 2) := by decide +kernel
theorem dX1_line_8 : decode cX1_line 8 = .ok (.aload_n 0, 1) := by decide +kernel
theorem dX1_line_9 : decode cX1_line 9 = .ok (.getfield 13, 3) := by decide +kernel
theorem dX1_line_12 : decode cX1_line 12 = .ok (.iload 6, 2) := by decide +kernel
theorem dX1_line_14 : decode cX1_line 14 = .ok (.iload_n 2, 1) := by decide +kernel
theorem dX1_line_15 : decode cX1_line 15 = .ok (.i2l, 1) := by decide +kernel
theorem dX1_line_16 : decode cX1_line 16 = .ok (.bipush 32, 2) := by decide +kernel
theorem dX1_line_18 : decode cX1_line 18 = .ok (.lshl, 1) := by decide +kernel
theorem dX1_line_19 : decode cX1_line 19 = .ok (.iload_n 3, 1) := by decide +kernel
theorem dX1_line_20 : decode cX1_line 20 = .ok (.i2l, 1) := by decide +kernel
theorem dX1_line_21 : decode cX1_line 21 = .ok (.ldc2_w 29, 3) := by decide +kernel
theorem dX1_line_24 : decode cX1_line 24 = .ok (.land, 1) := by decide +kernel
theorem dX1_line_25 : decode cX1_line 25 = .ok (.lor, 1) := by decide +kernel
theorem dX1_line_26 : decode cX1_line 26 = .ok (.lastore, 1) := by decide +kernel
theorem dX1_line_27 : decode cX1_line 27 = .ok (.aload_n 0, 1) := by decide +kernel
theorem dX1_line_28 : decode cX1_line 28 = .ok (.getfield 13, 3) := by decide +kernel
theorem dX1_line_31 : decode cX1_line 31 = .ok (.iload 6, 2) := by decide +kernel
theorem dX1_line_33 : decode cX1_line 33 = .ok (.iconst 1, 1) := by decide +kernel
theorem dX1_line_34 : decode cX1_line 34 = .ok (.iadd, 1) := by decide +kernel
theorem dX1_line_35 : decode cX1_line 35 = .ok (.iconst 5, 1) := by decide +kernel
theorem dX1_line_36 : decode cX1_line 36 = .ok (.irem, 1) := by decide +kernel
theorem dX1_line_37 : decode cX1_line 37 = .ok (.iload 4, 2) := by decide +kernel
theorem dX1_line_39 : decode cX1_line 39 = .ok (.i2l, 1) := by decide +kernel
theorem dX1_line_40 : decode cX1_line 40 = .ok (.bipush 32, 2) := by decide +kernel
theorem dX1_line_42 : decode cX1_line 42 = .ok (.lshl, 1) := by decide +kernel
theorem dX1_line_43 : decode cX1_line 43 = .ok (.iload 5, 2) := by decide +kernel
theorem dX1_line_45 : decode cX1_line 45 = .ok (.i2l, 1) := by decide +kernel
theorem dX1_line_46 : decode cX1_line 46 = .ok (.ldc2_w 29, 3) := by decide +kernel
theorem dX1_line_49 : decode cX1_line 49 = .ok (.land, 1) := by decide +kernel
theorem dX1_line_50 : decode cX1_line 50 = .ok (.lor, 1) := by decide +kernel
theorem dX1_line_51 : decode cX1_line 51 = .ok (.lastore, 1) := by decide +kernel
theorem dX1_line_52 : decode cX1_line 52 = .ok (.return_, 1) := by decide +kernel
abbrev cX1_load : ByteArray := prog_3_method_4_code
def yX1_load : MethodName := ⟨RX1, "load", "(I)V"⟩
theorem dX1_load_0 : decode cX1_load 0 = .ok (.iconst 0, 1) := by decide +kernel
theorem dX1_load_1 : decode cX1_load 1 = .ok (.istore_n 2, 1) := by decide +kernel
theorem dX1_load_2 : decode cX1_load 2 = .ok (.iload_n 2, 1) := by decide +kernel
theorem dX1_load_3 : decode cX1_load 3 = .ok (.iconst 5, 1) := by decide +kernel
theorem dX1_load_4 : decode cX1_load 4 = .ok (.if_icmp .ge 21, 3) := by decide +kernel
theorem dX1_load_7 : decode cX1_load 7 = .ok (.aload_n 0, 1) := by decide +kernel
theorem dX1_load_8 : decode cX1_load 8 = .ok (.getfield 16, 3) := by decide +kernel
theorem dX1_load_11 : decode cX1_load 11 = .ok (.iload_n 2, 1) := by decide +kernel
theorem dX1_load_12 : decode cX1_load 12 = .ok (.aload_n 0, 1) := by decide +kernel
theorem dX1_load_13 : decode cX1_load 13 = .ok (.getfield 13, 3) := by decide +kernel
theorem dX1_load_16 : decode cX1_load 16 = .ok (.iload_n 2, 1) := by decide +kernel
theorem dX1_load_17 : decode cX1_load 17 = .ok (.laload, 1) := by decide +kernel
theorem dX1_load_18 : decode cX1_load 18 = .ok (.lastore, 1) := by decide +kernel
theorem dX1_load_19 : decode cX1_load 19 = .ok (.iinc 2 1, 3) := by decide +kernel
theorem dX1_load_22 : decode cX1_load 22 = .ok (.goto (-20), 3) := by decide +kernel
theorem dX1_load_25 : decode cX1_load 25 = .ok (.aload_n 0, 1) := by decide +kernel
theorem dX1_load_26 : decode cX1_load 26 = .ok (.getfield 16, 3) := by decide +kernel
theorem dX1_load_29 : decode cX1_load 29 = .ok (.invokestatic 33, 3) := by decide +kernel
theorem dX1_load_32 : decode cX1_load 32 = .ok (.aload_n 0, 1) := by decide +kernel
theorem dX1_load_33 : decode cX1_load 33 = .ok (.iload_n 1, 1) := by decide +kernel
theorem dX1_load_34 : decode cX1_load 34 = .ok (.aload_n 0, 1) := by decide +kernel
theorem dX1_load_35 : decode cX1_load 35 = .ok (.getfield 16, 3) := by decide +kernel
theorem dX1_load_38 : decode cX1_load 38 = .ok (.invokevirtual 37, 3) := by decide +kernel
theorem dX1_load_41 : decode cX1_load 41 = .ok (.return_, 1) := by decide +kernel
abbrev cX1_mask : ByteArray := prog_3_method_3_code
def yX1_mask : MethodName := ⟨RX1, "mask", "([J)V"⟩
theorem dX1_mask_0 : decode cX1_mask 0 = .ok (.aload_n 0, 1) := by decide +kernel
theorem dX1_mask_1 : decode cX1_mask 1 = .ok (.iconst 4, 1) := by decide +kernel
theorem dX1_mask_2 : decode cX1_mask 2 = .ok (.aload_n 0, 1) := by decide +kernel
theorem dX1_mask_3 : decode cX1_mask 3 = .ok (.iconst 4, 1) := by decide +kernel
theorem dX1_mask_4 : decode cX1_mask 4 = .ok (.laload, 1) := by decide +kernel
theorem dX1_mask_5 : decode cX1_mask 5 = .ok (.ldc2_w 31, 3) := by decide +kernel
theorem dX1_mask_8 : decode cX1_mask 8 = .ok (.land, 1) := by decide +kernel
theorem dX1_mask_9 : decode cX1_mask 9 = .ok (.lastore, 1) := by decide +kernel
theorem dX1_mask_10 : decode cX1_mask 10 = .ok (.return_, 1) := by decide +kernel
abbrev cX1_give : ByteArray := prog_3_method_7_code
def yX1_give : MethodName := ⟨RX1, "give", "(I[J)V"⟩
theorem dX1_give_0 : decode cX1_give 0 = .ok (.iconst 0, 1) := by decide +kernel
theorem dX1_give_1 : decode cX1_give 1 = .ok (.istore_n 3, 1) := by decide +kernel
theorem dX1_give_2 : decode cX1_give 2 = .ok (.iload_n 3, 1) := by decide +kernel
theorem dX1_give_3 : decode cX1_give 3 = .ok (.iconst 5, 1) := by decide +kernel
theorem dX1_give_4 : decode cX1_give 4 = .ok (.if_icmp .ge 24, 3) := by decide +kernel
theorem dX1_give_7 : decode cX1_give 7 = .ok (.aload_n 0, 1) := by decide +kernel
theorem dX1_give_8 : decode cX1_give 8 = .ok (.getfield 7, 3) := by decide +kernel
theorem dX1_give_11 : decode cX1_give 11 = .ok (.iload_n 1, 1) := by decide +kernel
theorem dX1_give_12 : decode cX1_give 12 = .ok (.iconst 3, 1) := by decide +kernel
theorem dX1_give_13 : decode cX1_give 13 = .ok (.iand, 1) := by decide +kernel
theorem dX1_give_14 : decode cX1_give 14 = .ok (.iconst 5, 1) := by decide +kernel
theorem dX1_give_15 : decode cX1_give 15 = .ok (.imul, 1) := by decide +kernel
theorem dX1_give_16 : decode cX1_give 16 = .ok (.iload_n 3, 1) := by decide +kernel
theorem dX1_give_17 : decode cX1_give 17 = .ok (.iadd, 1) := by decide +kernel
theorem dX1_give_18 : decode cX1_give 18 = .ok (.aload_n 2, 1) := by decide +kernel
theorem dX1_give_19 : decode cX1_give 19 = .ok (.iload_n 3, 1) := by decide +kernel
theorem dX1_give_20 : decode cX1_give 20 = .ok (.laload, 1) := by decide +kernel
theorem dX1_give_21 : decode cX1_give 21 = .ok (.lastore, 1) := by decide +kernel
theorem dX1_give_22 : decode cX1_give 22 = .ok (.iinc 3 1, 3) := by decide +kernel
theorem dX1_give_25 : decode cX1_give 25 = .ok (.goto (-23), 3) := by decide +kernel
theorem dX1_give_28 : decode cX1_give 28 = .ok (.return_, 1) := by decide +kernel
abbrev cX1_word : ByteArray := prog_3_method_5_code
def yX1_word : MethodName := ⟨RX1, "word", "(II)I"⟩
theorem dX1_word_0 : decode cX1_word 0 = .ok (.aload_n 0, 1) := by decide +kernel
theorem dX1_word_1 : decode cX1_word 1 = .ok (.getfield 7, 3) := by decide +kernel
theorem dX1_word_4 : decode cX1_word 4 = .ok (.iload_n 1, 1) := by decide +kernel
theorem dX1_word_5 : decode cX1_word 5 = .ok (.iconst 3, 1) := by decide +kernel
theorem dX1_word_6 : decode cX1_word 6 = .ok (.iand, 1) := by decide +kernel
theorem dX1_word_7 : decode cX1_word 7 = .ok (.iconst 5, 1) := by decide +kernel
theorem dX1_word_8 : decode cX1_word 8 = .ok (.imul, 1) := by decide +kernel
theorem dX1_word_9 : decode cX1_word 9 = .ok (.iload_n 2, 1) := by decide +kernel
theorem dX1_word_10 : decode cX1_word 10 = .ok (.iconst 1, 1) := by decide +kernel
theorem dX1_word_11 : decode cX1_word 11 = .ok (.ishr, 1) := by decide +kernel
theorem dX1_word_12 : decode cX1_word 12 = .ok (.ldc 41, 2) := by decide +kernel
theorem dX1_word_14 : decode cX1_word 14 = .ok (.iand, 1) := by decide +kernel
theorem dX1_word_15 : decode cX1_word 15 = .ok (.iconst 5, 1) := by decide +kernel
theorem dX1_word_16 : decode cX1_word 16 = .ok (.irem, 1) := by decide +kernel
theorem dX1_word_17 : decode cX1_word 17 = .ok (.iadd, 1) := by decide +kernel
theorem dX1_word_18 : decode cX1_word 18 = .ok (.laload, 1) := by decide +kernel
theorem dX1_word_19 : decode cX1_word 19 = .ok (.lstore_n 3, 1) := by decide +kernel
theorem dX1_word_20 : decode cX1_word 20 = .ok (.iload_n 2, 1) := by decide +kernel
theorem dX1_word_21 : decode cX1_word 21 = .ok (.iconst 1, 1) := by decide +kernel
theorem dX1_word_22 : decode cX1_word 22 = .ok (.iand, 1) := by decide +kernel
theorem dX1_word_23 : decode cX1_word 23 = .ok (.ifCond .ne 7, 3) := by decide +kernel
theorem dX1_word_26 : decode cX1_word 26 = .ok (.lload_n 3, 1) := by decide +kernel
theorem dX1_word_27 : decode cX1_word 27 = .ok (.goto 7, 3) := by decide +kernel
theorem dX1_word_30 : decode cX1_word 30 = .ok (.lload_n 3, 1) := by decide +kernel
theorem dX1_word_31 : decode cX1_word 31 = .ok (.bipush 32, 2) := by decide +kernel
theorem dX1_word_33 : decode cX1_word 33 = .ok (.lushr, 1) := by decide +kernel
theorem dX1_word_34 : decode cX1_word 34 = .ok (.l2i, 1) := by decide +kernel
theorem dX1_word_35 : decode cX1_word 35 = .ok (.ireturn, 1) := by decide +kernel
abbrev cX1_add : ByteArray := prog_3_method_12_code
def yX1_add : MethodName := ⟨RX1, "add", "(III)V"⟩
theorem dX1_add_0 : decode cX1_add 0 = .ok (.aload_n 0, 1) := by decide +kernel
theorem dX1_add_1 : decode cX1_add 1 = .ok (.aload_n 0, 1) := by decide +kernel
theorem dX1_add_2 : decode cX1_add 2 = .ok (.getfield 16, 3) := by decide +kernel
theorem dX1_add_5 : decode cX1_add 5 = .ok (.iload_n 2, 1) := by decide +kernel
theorem dX1_add_6 : decode cX1_add 6 = .ok (.invokevirtual 50, 3) := by decide +kernel
theorem dX1_add_9 : decode cX1_add 9 = .ok (.aload_n 0, 1) := by decide +kernel
theorem dX1_add_10 : decode cX1_add 10 = .ok (.aload_n 0, 1) := by decide +kernel
theorem dX1_add_11 : decode cX1_add 11 = .ok (.getfield 19, 3) := by decide +kernel
theorem dX1_add_14 : decode cX1_add 14 = .ok (.iload_n 3, 1) := by decide +kernel
theorem dX1_add_15 : decode cX1_add 15 = .ok (.invokevirtual 50, 3) := by decide +kernel
theorem dX1_add_18 : decode cX1_add 18 = .ok (.iconst 0, 1) := by decide +kernel
theorem dX1_add_19 : decode cX1_add 19 = .ok (.istore 4, 2) := by decide +kernel
theorem dX1_add_21 : decode cX1_add 21 = .ok (.iload 4, 2) := by decide +kernel
theorem dX1_add_23 : decode cX1_add 23 = .ok (.iconst 5, 1) := by decide +kernel
theorem dX1_add_24 : decode cX1_add 24 = .ok (.if_icmp .ge 31, 3) := by decide +kernel
theorem dX1_add_27 : decode cX1_add 27 = .ok (.aload_n 0, 1) := by decide +kernel
theorem dX1_add_28 : decode cX1_add 28 = .ok (.getfield 16, 3) := by decide +kernel
theorem dX1_add_31 : decode cX1_add 31 = .ok (.iload 4, 2) := by decide +kernel
theorem dX1_add_33 : decode cX1_add 33 = .ok (.aload_n 0, 1) := by decide +kernel
theorem dX1_add_34 : decode cX1_add 34 = .ok (.getfield 16, 3) := by decide +kernel
theorem dX1_add_37 : decode cX1_add 37 = .ok (.iload 4, 2) := by decide +kernel
theorem dX1_add_39 : decode cX1_add 39 = .ok (.laload, 1) := by decide +kernel
theorem dX1_add_40 : decode cX1_add 40 = .ok (.aload_n 0, 1) := by decide +kernel
theorem dX1_add_41 : decode cX1_add 41 = .ok (.getfield 19, 3) := by decide +kernel
theorem dX1_add_44 : decode cX1_add 44 = .ok (.iload 4, 2) := by decide +kernel
theorem dX1_add_46 : decode cX1_add 46 = .ok (.laload, 1) := by decide +kernel
theorem dX1_add_47 : decode cX1_add 47 = .ok (.lxor, 1) := by decide +kernel
theorem dX1_add_48 : decode cX1_add 48 = .ok (.lastore, 1) := by decide +kernel
theorem dX1_add_49 : decode cX1_add 49 = .ok (.iinc 4 1, 3) := by decide +kernel
theorem dX1_add_52 : decode cX1_add 52 = .ok (.goto (-31), 3) := by decide +kernel
theorem dX1_add_55 : decode cX1_add 55 = .ok (.aload_n 0, 1) := by decide +kernel
theorem dX1_add_56 : decode cX1_add 56 = .ok (.iload_n 1, 1) := by decide +kernel
theorem dX1_add_57 : decode cX1_add 57 = .ok (.aload_n 0, 1) := by decide +kernel
theorem dX1_add_58 : decode cX1_add 58 = .ok (.getfield 16, 3) := by decide +kernel
theorem dX1_add_61 : decode cX1_add 61 = .ok (.invokevirtual 37, 3) := by decide +kernel
theorem dX1_add_64 : decode cX1_add 64 = .ok (.return_, 1) := by decide +kernel
abbrev cX1_take : ByteArray := prog_3_method_6_code
def yX1_take : MethodName := ⟨RX1, "take", "([JI)V"⟩
theorem dX1_take_0 : decode cX1_take 0 = .ok (.iconst 0, 1) := by decide +kernel
theorem dX1_take_1 : decode cX1_take 1 = .ok (.istore_n 3, 1) := by decide +kernel
theorem dX1_take_2 : decode cX1_take 2 = .ok (.iload_n 3, 1) := by decide +kernel
theorem dX1_take_3 : decode cX1_take 3 = .ok (.iconst 5, 1) := by decide +kernel
theorem dX1_take_4 : decode cX1_take 4 = .ok (.if_icmp .ge 24, 3) := by decide +kernel
theorem dX1_take_7 : decode cX1_take 7 = .ok (.aload_n 1, 1) := by decide +kernel
theorem dX1_take_8 : decode cX1_take 8 = .ok (.iload_n 3, 1) := by decide +kernel
theorem dX1_take_9 : decode cX1_take 9 = .ok (.aload_n 0, 1) := by decide +kernel
theorem dX1_take_10 : decode cX1_take 10 = .ok (.getfield 7, 3) := by decide +kernel
theorem dX1_take_13 : decode cX1_take 13 = .ok (.iload_n 2, 1) := by decide +kernel
theorem dX1_take_14 : decode cX1_take 14 = .ok (.iconst 3, 1) := by decide +kernel
theorem dX1_take_15 : decode cX1_take 15 = .ok (.iand, 1) := by decide +kernel
theorem dX1_take_16 : decode cX1_take 16 = .ok (.iconst 5, 1) := by decide +kernel
theorem dX1_take_17 : decode cX1_take 17 = .ok (.imul, 1) := by decide +kernel
theorem dX1_take_18 : decode cX1_take 18 = .ok (.iload_n 3, 1) := by decide +kernel
theorem dX1_take_19 : decode cX1_take 19 = .ok (.iadd, 1) := by decide +kernel
theorem dX1_take_20 : decode cX1_take 20 = .ok (.laload, 1) := by decide +kernel
theorem dX1_take_21 : decode cX1_take 21 = .ok (.lastore, 1) := by decide +kernel
theorem dX1_take_22 : decode cX1_take 22 = .ok (.iinc 3 1, 3) := by decide +kernel
theorem dX1_take_25 : decode cX1_take 25 = .ok (.goto (-23), 3) := by decide +kernel
theorem dX1_take_28 : decode cX1_take 28 = .ok (.return_, 1) := by decide +kernel
abbrev cX1_addOne : ByteArray := prog_3_method_13_code
def yX1_addOne : MethodName := ⟨RX1, "addOne", "(II)V"⟩
theorem dX1_addOne_0 : decode cX1_addOne 0 = .ok (.aload_n 0, 1) := by decide +kernel
theorem dX1_addOne_1 : decode cX1_addOne 1 = .ok (.aload_n 0, 1) := by decide +kernel
theorem dX1_addOne_2 : decode cX1_addOne 2 = .ok (.getfield 16, 3) := by decide +kernel
theorem dX1_addOne_5 : decode cX1_addOne 5 = .ok (.iload_n 2, 1) := by decide +kernel
theorem dX1_addOne_6 : decode cX1_addOne 6 = .ok (.invokevirtual 50, 3) := by decide +kernel
theorem dX1_addOne_9 : decode cX1_addOne 9 = .ok (.aload_n 0, 1) := by decide +kernel
theorem dX1_addOne_10 : decode cX1_addOne 10 = .ok (.getfield 16, 3) := by decide +kernel
theorem dX1_addOne_13 : decode cX1_addOne 13 = .ok (.iconst 0, 1) := by decide +kernel
theorem dX1_addOne_14 : decode cX1_addOne 14 = .ok (.invokestatic 46, 3) := by decide +kernel
theorem dX1_addOne_17 : decode cX1_addOne 17 = .ok (.aload_n 0, 1) := by decide +kernel
theorem dX1_addOne_18 : decode cX1_addOne 18 = .ok (.iload_n 1, 1) := by decide +kernel
theorem dX1_addOne_19 : decode cX1_addOne 19 = .ok (.aload_n 0, 1) := by decide +kernel
theorem dX1_addOne_20 : decode cX1_addOne 20 = .ok (.getfield 16, 3) := by decide +kernel
theorem dX1_addOne_23 : decode cX1_addOne 23 = .ok (.invokevirtual 37, 3) := by decide +kernel
theorem dX1_addOne_26 : decode cX1_addOne 26 = .ok (.return_, 1) := by decide +kernel
abbrev cX1_flip : ByteArray := prog_3_method_9_code
def yX1_flip : MethodName := ⟨RX1, "flip", "([JI)V"⟩
theorem dX1_flip_0 : decode cX1_flip 0 = .ok (.aload_n 0, 1) := by decide +kernel
theorem dX1_flip_1 : decode cX1_flip 1 = .ok (.iload_n 1, 1) := by decide +kernel
theorem dX1_flip_2 : decode cX1_flip 2 = .ok (.bipush 6, 2) := by decide +kernel
theorem dX1_flip_4 : decode cX1_flip 4 = .ok (.ishr, 1) := by decide +kernel
theorem dX1_flip_5 : decode cX1_flip 5 = .ok (.aload_n 0, 1) := by decide +kernel
theorem dX1_flip_6 : decode cX1_flip 6 = .ok (.iload_n 1, 1) := by decide +kernel
theorem dX1_flip_7 : decode cX1_flip 7 = .ok (.bipush 6, 2) := by decide +kernel
theorem dX1_flip_9 : decode cX1_flip 9 = .ok (.ishr, 1) := by decide +kernel
theorem dX1_flip_10 : decode cX1_flip 10 = .ok (.laload, 1) := by decide +kernel
theorem dX1_flip_11 : decode cX1_flip 11 = .ok (.lconst 1, 1) := by decide +kernel
theorem dX1_flip_12 : decode cX1_flip 12 = .ok (.iload_n 1, 1) := by decide +kernel
theorem dX1_flip_13 : decode cX1_flip 13 = .ok (.bipush 63, 2) := by decide +kernel
theorem dX1_flip_15 : decode cX1_flip 15 = .ok (.iand, 1) := by decide +kernel
theorem dX1_flip_16 : decode cX1_flip 16 = .ok (.lshl, 1) := by decide +kernel
theorem dX1_flip_17 : decode cX1_flip 17 = .ok (.lxor, 1) := by decide +kernel
theorem dX1_flip_18 : decode cX1_flip 18 = .ok (.lastore, 1) := by decide +kernel
theorem dX1_flip_19 : decode cX1_flip 19 = .ok (.return_, 1) := by decide +kernel
abbrev cX1_multiply : ByteArray := prog_3_method_14_code
def yX1_multiply : MethodName := ⟨RX1, "multiply", "(III)V"⟩
theorem dX1_multiply_0 : decode cX1_multiply 0 = .ok (.aload_n 0, 1) := by decide +kernel
theorem dX1_multiply_1 : decode cX1_multiply 1 = .ok (.aload_n 0, 1) := by decide +kernel
theorem dX1_multiply_2 : decode cX1_multiply 2 = .ok (.getfield 16, 3) := by decide +kernel
theorem dX1_multiply_5 : decode cX1_multiply 5 = .ok (.iload_n 2, 1) := by decide +kernel
theorem dX1_multiply_6 : decode cX1_multiply 6 = .ok (.invokevirtual 50, 3) := by decide +kernel
theorem dX1_multiply_9 : decode cX1_multiply 9 = .ok (.aload_n 0, 1) := by decide +kernel
theorem dX1_multiply_10 : decode cX1_multiply 10 = .ok (.aload_n 0, 1) := by decide +kernel
theorem dX1_multiply_11 : decode cX1_multiply 11 = .ok (.getfield 19, 3) := by decide +kernel
theorem dX1_multiply_14 : decode cX1_multiply 14 = .ok (.iload_n 3, 1) := by decide +kernel
theorem dX1_multiply_15 : decode cX1_multiply 15 = .ok (.invokevirtual 50, 3) := by decide +kernel
theorem dX1_multiply_18 : decode cX1_multiply 18 = .ok (.aload_n 0, 1) := by decide +kernel
theorem dX1_multiply_19 : decode cX1_multiply 19 = .ok (.aload_n 0, 1) := by decide +kernel
theorem dX1_multiply_20 : decode cX1_multiply 20 = .ok (.getfield 16, 3) := by decide +kernel
theorem dX1_multiply_23 : decode cX1_multiply 23 = .ok (.aload_n 0, 1) := by decide +kernel
theorem dX1_multiply_24 : decode cX1_multiply 24 = .ok (.getfield 19, 3) := by decide +kernel
theorem dX1_multiply_27 : decode cX1_multiply 27 = .ok (.invokevirtual 53, 3) := by decide +kernel
theorem dX1_multiply_30 : decode cX1_multiply 30 = .ok (.aload_n 0, 1) := by decide +kernel
theorem dX1_multiply_31 : decode cX1_multiply 31 = .ok (.iload_n 1, 1) := by decide +kernel
theorem dX1_multiply_32 : decode cX1_multiply 32 = .ok (.aload_n 0, 1) := by decide +kernel
theorem dX1_multiply_33 : decode cX1_multiply 33 = .ok (.getfield 22, 3) := by decide +kernel
theorem dX1_multiply_36 : decode cX1_multiply 36 = .ok (.invokevirtual 37, 3) := by decide +kernel
theorem dX1_multiply_39 : decode cX1_multiply 39 = .ok (.return_, 1) := by decide +kernel
abbrev cX1_times : ByteArray := prog_3_method_10_code
def yX1_times : MethodName := ⟨RX1, "times", "([J[J)V"⟩
theorem dX1_times_0 : decode cX1_times 0 = .ok (.iconst 0, 1) := by decide +kernel
theorem dX1_times_1 : decode cX1_times 1 = .ok (.istore_n 3, 1) := by decide +kernel
theorem dX1_times_2 : decode cX1_times 2 = .ok (.iload_n 3, 1) := by decide +kernel
theorem dX1_times_3 : decode cX1_times 3 = .ok (.iconst 5, 1) := by decide +kernel
theorem dX1_times_4 : decode cX1_times 4 = .ok (.if_icmp .ge 16, 3) := by decide +kernel
theorem dX1_times_7 : decode cX1_times 7 = .ok (.aload_n 0, 1) := by decide +kernel
theorem dX1_times_8 : decode cX1_times 8 = .ok (.getfield 22, 3) := by decide +kernel
theorem dX1_times_11 : decode cX1_times 11 = .ok (.iload_n 3, 1) := by decide +kernel
theorem dX1_times_12 : decode cX1_times 12 = .ok (.lconst 0, 1) := by decide +kernel
theorem dX1_times_13 : decode cX1_times 13 = .ok (.lastore, 1) := by decide +kernel
theorem dX1_times_14 : decode cX1_times 14 = .ok (.iinc 3 1, 3) := by decide +kernel
theorem dX1_times_17 : decode cX1_times 17 = .ok (.goto (-15), 3) := by decide +kernel
theorem dX1_times_20 : decode cX1_times 20 = .ok (.sipush 282, 3) := by decide +kernel
theorem dX1_times_23 : decode cX1_times 23 = .ok (.istore_n 3, 1) := by decide +kernel
theorem dX1_times_24 : decode cX1_times 24 = .ok (.iload_n 3, 1) := by decide +kernel
theorem dX1_times_25 : decode cX1_times 25 = .ok (.ifCond .lt 166, 3) := by decide +kernel
theorem dX1_times_28 : decode cX1_times 28 = .ok (.aload_n 0, 1) := by decide +kernel
theorem dX1_times_29 : decode cX1_times 29 = .ok (.getfield 22, 3) := by decide +kernel
theorem dX1_times_32 : decode cX1_times 32 = .ok (.sipush 282, 3) := by decide +kernel
theorem dX1_times_35 : decode cX1_times 35 = .ok (.invokestatic 42, 3) := by decide +kernel
theorem dX1_times_38 : decode cX1_times 38 = .ok (.istore 4, 2) := by decide +kernel
theorem dX1_times_40 : decode cX1_times 40 = .ok (.iconst 4, 1) := by decide +kernel
theorem dX1_times_41 : decode cX1_times 41 = .ok (.istore 5, 2) := by decide +kernel
theorem dX1_times_43 : decode cX1_times 43 = .ok (.iload 5, 2) := by decide +kernel
theorem dX1_times_45 : decode cX1_times 45 = .ok (.ifCond .le 38, 3) := by decide +kernel
theorem dX1_times_48 : decode cX1_times 48 = .ok (.aload_n 0, 1) := by decide +kernel
theorem dX1_times_49 : decode cX1_times 49 = .ok (.getfield 22, 3) := by decide +kernel
theorem dX1_times_52 : decode cX1_times 52 = .ok (.iload 5, 2) := by decide +kernel
theorem dX1_times_54 : decode cX1_times 54 = .ok (.aload_n 0, 1) := by decide +kernel
theorem dX1_times_55 : decode cX1_times 55 = .ok (.getfield 22, 3) := by decide +kernel
theorem dX1_times_58 : decode cX1_times 58 = .ok (.iload 5, 2) := by decide +kernel
theorem dX1_times_60 : decode cX1_times 60 = .ok (.laload, 1) := by decide +kernel
theorem dX1_times_61 : decode cX1_times 61 = .ok (.iconst 1, 1) := by decide +kernel
theorem dX1_times_62 : decode cX1_times 62 = .ok (.lshl, 1) := by decide +kernel
theorem dX1_times_63 : decode cX1_times 63 = .ok (.aload_n 0, 1) := by decide +kernel
theorem dX1_times_64 : decode cX1_times 64 = .ok (.getfield 22, 3) := by decide +kernel
theorem dX1_times_67 : decode cX1_times 67 = .ok (.iload 5, 2) := by decide +kernel
theorem dX1_times_69 : decode cX1_times 69 = .ok (.iconst 1, 1) := by decide +kernel
theorem dX1_times_70 : decode cX1_times 70 = .ok (.isub, 1) := by decide +kernel
theorem dX1_times_71 : decode cX1_times 71 = .ok (.laload, 1) := by decide +kernel
theorem dX1_times_72 : decode cX1_times 72 = .ok (.bipush 63, 2) := by decide +kernel
theorem dX1_times_74 : decode cX1_times 74 = .ok (.lushr, 1) := by decide +kernel
theorem dX1_times_75 : decode cX1_times 75 = .ok (.lor, 1) := by decide +kernel
theorem dX1_times_76 : decode cX1_times 76 = .ok (.lastore, 1) := by decide +kernel
theorem dX1_times_77 : decode cX1_times 77 = .ok (.iinc 5 (-1), 3) := by decide +kernel
theorem dX1_times_80 : decode cX1_times 80 = .ok (.goto (-37), 3) := by decide +kernel
theorem dX1_times_83 : decode cX1_times 83 = .ok (.aload_n 0, 1) := by decide +kernel
theorem dX1_times_84 : decode cX1_times 84 = .ok (.getfield 22, 3) := by decide +kernel
theorem dX1_times_87 : decode cX1_times 87 = .ok (.iconst 0, 1) := by decide +kernel
theorem dX1_times_88 : decode cX1_times 88 = .ok (.aload_n 0, 1) := by decide +kernel
theorem dX1_times_89 : decode cX1_times 89 = .ok (.getfield 22, 3) := by decide +kernel
theorem dX1_times_92 : decode cX1_times 92 = .ok (.iconst 0, 1) := by decide +kernel
theorem dX1_times_93 : decode cX1_times 93 = .ok (.laload, 1) := by decide +kernel
theorem dX1_times_94 : decode cX1_times 94 = .ok (.iconst 1, 1) := by decide +kernel
theorem dX1_times_95 : decode cX1_times 95 = .ok (.lshl, 1) := by decide +kernel
theorem dX1_times_96 : decode cX1_times 96 = .ok (.lastore, 1) := by decide +kernel
theorem dX1_times_97 : decode cX1_times 97 = .ok (.aload_n 0, 1) := by decide +kernel
theorem dX1_times_98 : decode cX1_times 98 = .ok (.getfield 22, 3) := by decide +kernel
theorem dX1_times_101 : decode cX1_times 101 = .ok (.invokestatic 33, 3) := by decide +kernel
theorem dX1_times_104 : decode cX1_times 104 = .ok (.iload 4, 2) := by decide +kernel
theorem dX1_times_106 : decode cX1_times 106 = .ok (.ifCond .eq 37, 3) := by decide +kernel
theorem dX1_times_109 : decode cX1_times 109 = .ok (.aload_n 0, 1) := by decide +kernel
theorem dX1_times_110 : decode cX1_times 110 = .ok (.getfield 22, 3) := by decide +kernel
theorem dX1_times_113 : decode cX1_times 113 = .ok (.bipush 12, 2) := by decide +kernel
theorem dX1_times_115 : decode cX1_times 115 = .ok (.invokestatic 46, 3) := by decide +kernel
theorem dX1_times_118 : decode cX1_times 118 = .ok (.aload_n 0, 1) := by decide +kernel
theorem dX1_times_119 : decode cX1_times 119 = .ok (.getfield 22, 3) := by decide +kernel
theorem dX1_times_122 : decode cX1_times 122 = .ok (.bipush 7, 2) := by decide +kernel
theorem dX1_times_124 : decode cX1_times 124 = .ok (.invokestatic 46, 3) := by decide +kernel
theorem dX1_times_127 : decode cX1_times 127 = .ok (.aload_n 0, 1) := by decide +kernel
theorem dX1_times_128 : decode cX1_times 128 = .ok (.getfield 22, 3) := by decide +kernel
theorem dX1_times_131 : decode cX1_times 131 = .ok (.iconst 5, 1) := by decide +kernel
theorem dX1_times_132 : decode cX1_times 132 = .ok (.invokestatic 46, 3) := by decide +kernel
theorem dX1_times_135 : decode cX1_times 135 = .ok (.aload_n 0, 1) := by decide +kernel
theorem dX1_times_136 : decode cX1_times 136 = .ok (.getfield 22, 3) := by decide +kernel
theorem dX1_times_139 : decode cX1_times 139 = .ok (.iconst 0, 1) := by decide +kernel
theorem dX1_times_140 : decode cX1_times 140 = .ok (.invokestatic 46, 3) := by decide +kernel
theorem dX1_times_143 : decode cX1_times 143 = .ok (.aload_n 2, 1) := by decide +kernel
theorem dX1_times_144 : decode cX1_times 144 = .ok (.iload_n 3, 1) := by decide +kernel
theorem dX1_times_145 : decode cX1_times 145 = .ok (.invokestatic 42, 3) := by decide +kernel
theorem dX1_times_148 : decode cX1_times 148 = .ok (.ifCond .eq 37, 3) := by decide +kernel
theorem dX1_times_151 : decode cX1_times 151 = .ok (.iconst 0, 1) := by decide +kernel
theorem dX1_times_152 : decode cX1_times 152 = .ok (.istore 5, 2) := by decide +kernel
theorem dX1_times_154 : decode cX1_times 154 = .ok (.iload 5, 2) := by decide +kernel
theorem dX1_times_156 : decode cX1_times 156 = .ok (.iconst 5, 1) := by decide +kernel
theorem dX1_times_157 : decode cX1_times 157 = .ok (.if_icmp .ge 28, 3) := by decide +kernel
theorem dX1_times_160 : decode cX1_times 160 = .ok (.aload_n 0, 1) := by decide +kernel
theorem dX1_times_161 : decode cX1_times 161 = .ok (.getfield 22, 3) := by decide +kernel
theorem dX1_times_164 : decode cX1_times 164 = .ok (.iload 5, 2) := by decide +kernel
theorem dX1_times_166 : decode cX1_times 166 = .ok (.aload_n 0, 1) := by decide +kernel
theorem dX1_times_167 : decode cX1_times 167 = .ok (.getfield 22, 3) := by decide +kernel
theorem dX1_times_170 : decode cX1_times 170 = .ok (.iload 5, 2) := by decide +kernel
theorem dX1_times_172 : decode cX1_times 172 = .ok (.laload, 1) := by decide +kernel
theorem dX1_times_173 : decode cX1_times 173 = .ok (.aload_n 1, 1) := by decide +kernel
theorem dX1_times_174 : decode cX1_times 174 = .ok (.iload 5, 2) := by decide +kernel
theorem dX1_times_176 : decode cX1_times 176 = .ok (.laload, 1) := by decide +kernel
theorem dX1_times_177 : decode cX1_times 177 = .ok (.lxor, 1) := by decide +kernel
theorem dX1_times_178 : decode cX1_times 178 = .ok (.lastore, 1) := by decide +kernel
theorem dX1_times_179 : decode cX1_times 179 = .ok (.iinc 5 1, 3) := by decide +kernel
theorem dX1_times_182 : decode cX1_times 182 = .ok (.goto (-28), 3) := by decide +kernel
theorem dX1_times_185 : decode cX1_times 185 = .ok (.iinc 3 (-1), 3) := by decide +kernel
theorem dX1_times_188 : decode cX1_times 188 = .ok (.goto (-164), 3) := by decide +kernel
theorem dX1_times_191 : decode cX1_times 191 = .ok (.return_, 1) := by decide +kernel
end
section
set_option maxRecDepth 100000
abbrev cX1_bit : ByteArray := prog_3_method_8_code
def yX1_bit : MethodName := ⟨RX1, "bit", "([JI)Z"⟩
theorem dX1_bit_0 : decode cX1_bit 0 = .ok (.aload_n 0, 1) := by decide +kernel
theorem dX1_bit_1 : decode cX1_bit 1 = .ok (.iload_n 1, 1) := by decide +kernel
theorem dX1_bit_2 : decode cX1_bit 2 = .ok (.bipush 6, 2) := by decide +kernel
theorem dX1_bit_4 : decode cX1_bit 4 = .ok (.ishr, 1) := by decide +kernel
theorem dX1_bit_5 : decode cX1_bit 5 = .ok (.laload, 1) := by decide +kernel
theorem dX1_bit_6 : decode cX1_bit 6 = .ok (.iload_n 1, 1) := by decide +kernel
theorem dX1_bit_7 : decode cX1_bit 7 = .ok (.bipush 63, 2) := by decide +kernel
theorem dX1_bit_9 : decode cX1_bit 9 = .ok (.iand, 1) := by decide +kernel
theorem dX1_bit_10 : decode cX1_bit 10 = .ok (.lushr, 1) := by decide +kernel
theorem dX1_bit_11 : decode cX1_bit 11 = .ok (.lconst 1, 1) := by decide +kernel
theorem dX1_bit_12 : decode cX1_bit 12 = .ok (.land, 1) := by decide +kernel
theorem dX1_bit_13 : decode cX1_bit 13 = .ok (.lconst 0, 1) := by decide +kernel
theorem dX1_bit_14 : decode cX1_bit 14 = .ok (.lcmp, 1) := by decide +kernel
theorem dX1_bit_15 : decode cX1_bit 15 = .ok (.ifCond .eq 7, 3) := by decide +kernel
theorem dX1_bit_18 : decode cX1_bit 18 = .ok (.iconst 1, 1) := by decide +kernel
theorem dX1_bit_19 : decode cX1_bit 19 = .ok (.goto 4, 3) := by decide +kernel
theorem dX1_bit_22 : decode cX1_bit 22 = .ok (.iconst 0, 1) := by decide +kernel
theorem dX1_bit_23 : decode cX1_bit 23 = .ok (.ireturn, 1) := by decide +kernel
abbrev cX1_square : ByteArray := prog_3_method_15_code
def yX1_square : MethodName := ⟨RX1, "square", "(II)V"⟩
theorem dX1_square_0 : decode cX1_square 0 = .ok (.aload_n 0, 1) := by decide +kernel
theorem dX1_square_1 : decode cX1_square 1 = .ok (.iload_n 1, 1) := by decide +kernel
theorem dX1_square_2 : decode cX1_square 2 = .ok (.iload_n 2, 1) := by decide +kernel
theorem dX1_square_3 : decode cX1_square 3 = .ok (.iconst 0, 1) := by decide +kernel
theorem dX1_square_4 : decode cX1_square 4 = .ok (.invokevirtual 57, 3) := by decide +kernel
theorem dX1_square_7 : decode cX1_square 7 = .ok (.return_, 1) := by decide +kernel
abbrev cX1_squares : ByteArray := prog_3_method_16_code
def yX1_squares : MethodName := ⟨RX1, "squares", "(III)V"⟩
theorem dX1_squares_0 : decode cX1_squares 0 = .ok (.aload_n 0, 1) := by decide +kernel
theorem dX1_squares_1 : decode cX1_squares 1 = .ok (.aload_n 0, 1) := by decide +kernel
theorem dX1_squares_2 : decode cX1_squares 2 = .ok (.getfield 16, 3) := by decide +kernel
theorem dX1_squares_5 : decode cX1_squares 5 = .ok (.iload_n 2, 1) := by decide +kernel
theorem dX1_squares_6 : decode cX1_squares 6 = .ok (.invokevirtual 50, 3) := by decide +kernel
theorem dX1_squares_9 : decode cX1_squares 9 = .ok (.iconst 0, 1) := by decide +kernel
theorem dX1_squares_10 : decode cX1_squares 10 = .ok (.istore 4, 2) := by decide +kernel
theorem dX1_squares_12 : decode cX1_squares 12 = .ok (.iload 4, 2) := by decide +kernel
theorem dX1_squares_14 : decode cX1_squares 14 = .ok (.iload_n 3, 1) := by decide +kernel
theorem dX1_squares_15 : decode cX1_squares 15 = .ok (.bipush 15, 2) := by decide +kernel
theorem dX1_squares_17 : decode cX1_squares 17 = .ok (.iand, 1) := by decide +kernel
theorem dX1_squares_18 : decode cX1_squares 18 = .ok (.if_icmp .gt 33, 3) := by decide +kernel
theorem dX1_squares_21 : decode cX1_squares 21 = .ok (.aload_n 0, 1) := by decide +kernel
theorem dX1_squares_22 : decode cX1_squares 22 = .ok (.aload_n 0, 1) := by decide +kernel
theorem dX1_squares_23 : decode cX1_squares 23 = .ok (.getfield 16, 3) := by decide +kernel
theorem dX1_squares_26 : decode cX1_squares 26 = .ok (.aload_n 0, 1) := by decide +kernel
theorem dX1_squares_27 : decode cX1_squares 27 = .ok (.getfield 16, 3) := by decide +kernel
theorem dX1_squares_30 : decode cX1_squares 30 = .ok (.invokevirtual 53, 3) := by decide +kernel
theorem dX1_squares_33 : decode cX1_squares 33 = .ok (.aload_n 0, 1) := by decide +kernel
theorem dX1_squares_34 : decode cX1_squares 34 = .ok (.aload_n 0, 1) := by decide +kernel
theorem dX1_squares_35 : decode cX1_squares 35 = .ok (.getfield 16, 3) := by decide +kernel
theorem dX1_squares_38 : decode cX1_squares 38 = .ok (.aload_n 0, 1) := by decide +kernel
theorem dX1_squares_39 : decode cX1_squares 39 = .ok (.getfield 22, 3) := by decide +kernel
theorem dX1_squares_42 : decode cX1_squares 42 = .ok (.invokevirtual 61, 3) := by decide +kernel
theorem dX1_squares_45 : decode cX1_squares 45 = .ok (.iinc 4 1, 3) := by decide +kernel
theorem dX1_squares_48 : decode cX1_squares 48 = .ok (.goto (-36), 3) := by decide +kernel
theorem dX1_squares_51 : decode cX1_squares 51 = .ok (.aload_n 0, 1) := by decide +kernel
theorem dX1_squares_52 : decode cX1_squares 52 = .ok (.iload_n 1, 1) := by decide +kernel
theorem dX1_squares_53 : decode cX1_squares 53 = .ok (.aload_n 0, 1) := by decide +kernel
theorem dX1_squares_54 : decode cX1_squares 54 = .ok (.getfield 16, 3) := by decide +kernel
theorem dX1_squares_57 : decode cX1_squares 57 = .ok (.invokevirtual 37, 3) := by decide +kernel
theorem dX1_squares_60 : decode cX1_squares 60 = .ok (.return_, 1) := by decide +kernel
abbrev cX1_copy : ByteArray := prog_3_method_11_code
def yX1_copy : MethodName := ⟨RX1, "copy", "([J[J)V"⟩
theorem dX1_copy_0 : decode cX1_copy 0 = .ok (.iconst 0, 1) := by decide +kernel
theorem dX1_copy_1 : decode cX1_copy 1 = .ok (.istore_n 3, 1) := by decide +kernel
theorem dX1_copy_2 : decode cX1_copy 2 = .ok (.iload_n 3, 1) := by decide +kernel
theorem dX1_copy_3 : decode cX1_copy 3 = .ok (.iconst 5, 1) := by decide +kernel
theorem dX1_copy_4 : decode cX1_copy 4 = .ok (.if_icmp .ge 15, 3) := by decide +kernel
theorem dX1_copy_7 : decode cX1_copy 7 = .ok (.aload_n 1, 1) := by decide +kernel
theorem dX1_copy_8 : decode cX1_copy 8 = .ok (.iload_n 3, 1) := by decide +kernel
theorem dX1_copy_9 : decode cX1_copy 9 = .ok (.aload_n 2, 1) := by decide +kernel
theorem dX1_copy_10 : decode cX1_copy 10 = .ok (.iload_n 3, 1) := by decide +kernel
theorem dX1_copy_11 : decode cX1_copy 11 = .ok (.laload, 1) := by decide +kernel
theorem dX1_copy_12 : decode cX1_copy 12 = .ok (.lastore, 1) := by decide +kernel
theorem dX1_copy_13 : decode cX1_copy 13 = .ok (.iinc 3 1, 3) := by decide +kernel
theorem dX1_copy_16 : decode cX1_copy 16 = .ok (.goto (-14), 3) := by decide +kernel
theorem dX1_copy_19 : decode cX1_copy 19 = .ok (.return_, 1) := by decide +kernel
abbrev cX1_root : ByteArray := prog_3_method_17_code
def yX1_root : MethodName := ⟨RX1, "root", "(II)V"⟩
theorem dX1_root_0 : decode cX1_root 0 = .ok (.aload_n 0, 1) := by decide +kernel
theorem dX1_root_1 : decode cX1_root 1 = .ok (.aload_n 0, 1) := by decide +kernel
theorem dX1_root_2 : decode cX1_root 2 = .ok (.getfield 16, 3) := by decide +kernel
theorem dX1_root_5 : decode cX1_root 5 = .ok (.iload_n 2, 1) := by decide +kernel
theorem dX1_root_6 : decode cX1_root 6 = .ok (.invokevirtual 50, 3) := by decide +kernel
theorem dX1_root_9 : decode cX1_root 9 = .ok (.iconst 1, 1) := by decide +kernel
theorem dX1_root_10 : decode cX1_root 10 = .ok (.istore_n 3, 1) := by decide +kernel
theorem dX1_root_11 : decode cX1_root 11 = .ok (.iload_n 3, 1) := by decide +kernel
theorem dX1_root_12 : decode cX1_root 12 = .ok (.sipush 283, 3) := by decide +kernel
theorem dX1_root_15 : decode cX1_root 15 = .ok (.if_icmp .ge 33, 3) := by decide +kernel
theorem dX1_root_18 : decode cX1_root 18 = .ok (.aload_n 0, 1) := by decide +kernel
theorem dX1_root_19 : decode cX1_root 19 = .ok (.aload_n 0, 1) := by decide +kernel
theorem dX1_root_20 : decode cX1_root 20 = .ok (.getfield 16, 3) := by decide +kernel
theorem dX1_root_23 : decode cX1_root 23 = .ok (.aload_n 0, 1) := by decide +kernel
theorem dX1_root_24 : decode cX1_root 24 = .ok (.getfield 16, 3) := by decide +kernel
theorem dX1_root_27 : decode cX1_root 27 = .ok (.invokevirtual 53, 3) := by decide +kernel
theorem dX1_root_30 : decode cX1_root 30 = .ok (.aload_n 0, 1) := by decide +kernel
theorem dX1_root_31 : decode cX1_root 31 = .ok (.aload_n 0, 1) := by decide +kernel
theorem dX1_root_32 : decode cX1_root 32 = .ok (.getfield 16, 3) := by decide +kernel
theorem dX1_root_35 : decode cX1_root 35 = .ok (.aload_n 0, 1) := by decide +kernel
theorem dX1_root_36 : decode cX1_root 36 = .ok (.getfield 22, 3) := by decide +kernel
theorem dX1_root_39 : decode cX1_root 39 = .ok (.invokevirtual 61, 3) := by decide +kernel
theorem dX1_root_42 : decode cX1_root 42 = .ok (.iinc 3 1, 3) := by decide +kernel
theorem dX1_root_45 : decode cX1_root 45 = .ok (.goto (-34), 3) := by decide +kernel
theorem dX1_root_48 : decode cX1_root 48 = .ok (.aload_n 0, 1) := by decide +kernel
theorem dX1_root_49 : decode cX1_root 49 = .ok (.iload_n 1, 1) := by decide +kernel
theorem dX1_root_50 : decode cX1_root 50 = .ok (.aload_n 0, 1) := by decide +kernel
theorem dX1_root_51 : decode cX1_root 51 = .ok (.getfield 16, 3) := by decide +kernel
theorem dX1_root_54 : decode cX1_root 54 = .ok (.invokevirtual 37, 3) := by decide +kernel
theorem dX1_root_57 : decode cX1_root 57 = .ok (.return_, 1) := by decide +kernel
abbrev cX1_invert : ByteArray := prog_3_method_18_code
def yX1_invert : MethodName := ⟨RX1, "invert", "(II)Z"⟩
theorem dX1_invert_0 : decode cX1_invert 0 = .ok (.aload_n 0, 1) := by decide +kernel
theorem dX1_invert_1 : decode cX1_invert 1 = .ok (.aload_n 0, 1) := by decide +kernel
theorem dX1_invert_2 : decode cX1_invert 2 = .ok (.getfield 19, 3) := by decide +kernel
theorem dX1_invert_5 : decode cX1_invert 5 = .ok (.iload_n 2, 1) := by decide +kernel
theorem dX1_invert_6 : decode cX1_invert 6 = .ok (.invokevirtual 50, 3) := by decide +kernel
theorem dX1_invert_9 : decode cX1_invert 9 = .ok (.iconst 0, 1) := by decide +kernel
theorem dX1_invert_10 : decode cX1_invert 10 = .ok (.istore_n 3, 1) := by decide +kernel
theorem dX1_invert_11 : decode cX1_invert 11 = .ok (.iconst 0, 1) := by decide +kernel
theorem dX1_invert_12 : decode cX1_invert 12 = .ok (.istore 4, 2) := by decide +kernel
theorem dX1_invert_14 : decode cX1_invert 14 = .ok (.iload 4, 2) := by decide +kernel
theorem dX1_invert_16 : decode cX1_invert 16 = .ok (.iconst 5, 1) := by decide +kernel
theorem dX1_invert_17 : decode cX1_invert 17 = .ok (.if_icmp .ge 31, 3) := by decide +kernel
theorem dX1_invert_20 : decode cX1_invert 20 = .ok (.iload_n 3, 1) := by decide +kernel
theorem dX1_invert_21 : decode cX1_invert 21 = .ok (.ifCond .ne 15, 3) := by decide +kernel
theorem dX1_invert_24 : decode cX1_invert 24 = .ok (.aload_n 0, 1) := by decide +kernel
theorem dX1_invert_25 : decode cX1_invert 25 = .ok (.getfield 19, 3) := by decide +kernel
theorem dX1_invert_28 : decode cX1_invert 28 = .ok (.iload 4, 2) := by decide +kernel
theorem dX1_invert_30 : decode cX1_invert 30 = .ok (.laload, 1) := by decide +kernel
theorem dX1_invert_31 : decode cX1_invert 31 = .ok (.lconst 0, 1) := by decide +kernel
theorem dX1_invert_32 : decode cX1_invert 32 = .ok (.lcmp, 1) := by decide +kernel
theorem dX1_invert_33 : decode cX1_invert 33 = .ok (.ifCond .eq 7, 3) := by decide +kernel
theorem dX1_invert_36 : decode cX1_invert 36 = .ok (.iconst 1, 1) := by decide +kernel
theorem dX1_invert_37 : decode cX1_invert 37 = .ok (.goto 4, 3) := by decide +kernel
theorem dX1_invert_40 : decode cX1_invert 40 = .ok (.iconst 0, 1) := by decide +kernel
theorem dX1_invert_41 : decode cX1_invert 41 = .ok (.istore_n 3, 1) := by decide +kernel
theorem dX1_invert_42 : decode cX1_invert 42 = .ok (.iinc 4 1, 3) := by decide +kernel
theorem dX1_invert_45 : decode cX1_invert 45 = .ok (.goto (-31), 3) := by decide +kernel
theorem dX1_invert_48 : decode cX1_invert 48 = .ok (.iload_n 3, 1) := by decide +kernel
theorem dX1_invert_49 : decode cX1_invert 49 = .ok (.ifCond .ne 5, 3) := by decide +kernel
theorem dX1_invert_52 : decode cX1_invert 52 = .ok (.iconst 0, 1) := by decide +kernel
theorem dX1_invert_53 : decode cX1_invert 53 = .ok (.ireturn, 1) := by decide +kernel
theorem dX1_invert_54 : decode cX1_invert 54 = .ok (.aload_n 0, 1) := by decide +kernel
theorem dX1_invert_55 : decode cX1_invert 55 = .ok (.aload_n 0, 1) := by decide +kernel
theorem dX1_invert_56 : decode cX1_invert 56 = .ok (.getfield 16, 3) := by decide +kernel
theorem dX1_invert_59 : decode cX1_invert 59 = .ok (.aload_n 0, 1) := by decide +kernel
theorem dX1_invert_60 : decode cX1_invert 60 = .ok (.getfield 19, 3) := by decide +kernel
theorem dX1_invert_63 : decode cX1_invert 63 = .ok (.invokevirtual 61, 3) := by decide +kernel
theorem dX1_invert_66 : decode cX1_invert 66 = .ok (.iconst 2, 1) := by decide +kernel
theorem dX1_invert_67 : decode cX1_invert 67 = .ok (.istore 4, 2) := by decide +kernel
theorem dX1_invert_69 : decode cX1_invert 69 = .ok (.iload 4, 2) := by decide +kernel
theorem dX1_invert_71 : decode cX1_invert 71 = .ok (.sipush 283, 3) := by decide +kernel
theorem dX1_invert_74 : decode cX1_invert 74 = .ok (.if_icmp .ge 57, 3) := by decide +kernel
theorem dX1_invert_77 : decode cX1_invert 77 = .ok (.aload_n 0, 1) := by decide +kernel
theorem dX1_invert_78 : decode cX1_invert 78 = .ok (.aload_n 0, 1) := by decide +kernel
theorem dX1_invert_79 : decode cX1_invert 79 = .ok (.getfield 16, 3) := by decide +kernel
theorem dX1_invert_82 : decode cX1_invert 82 = .ok (.aload_n 0, 1) := by decide +kernel
theorem dX1_invert_83 : decode cX1_invert 83 = .ok (.getfield 16, 3) := by decide +kernel
theorem dX1_invert_86 : decode cX1_invert 86 = .ok (.invokevirtual 53, 3) := by decide +kernel
theorem dX1_invert_89 : decode cX1_invert 89 = .ok (.aload_n 0, 1) := by decide +kernel
theorem dX1_invert_90 : decode cX1_invert 90 = .ok (.aload_n 0, 1) := by decide +kernel
theorem dX1_invert_91 : decode cX1_invert 91 = .ok (.getfield 16, 3) := by decide +kernel
theorem dX1_invert_94 : decode cX1_invert 94 = .ok (.aload_n 0, 1) := by decide +kernel
theorem dX1_invert_95 : decode cX1_invert 95 = .ok (.getfield 22, 3) := by decide +kernel
theorem dX1_invert_98 : decode cX1_invert 98 = .ok (.invokevirtual 61, 3) := by decide +kernel
theorem dX1_invert_101 : decode cX1_invert 101 = .ok (.aload_n 0, 1) := by decide +kernel
theorem dX1_invert_102 : decode cX1_invert 102 = .ok (.aload_n 0, 1) := by decide +kernel
theorem dX1_invert_103 : decode cX1_invert 103 = .ok (.getfield 16, 3) := by decide +kernel
theorem dX1_invert_106 : decode cX1_invert 106 = .ok (.aload_n 0, 1) := by decide +kernel
theorem dX1_invert_107 : decode cX1_invert 107 = .ok (.getfield 19, 3) := by decide +kernel
theorem dX1_invert_110 : decode cX1_invert 110 = .ok (.invokevirtual 53, 3) := by decide +kernel
theorem dX1_invert_113 : decode cX1_invert 113 = .ok (.aload_n 0, 1) := by decide +kernel
theorem dX1_invert_114 : decode cX1_invert 114 = .ok (.aload_n 0, 1) := by decide +kernel
theorem dX1_invert_115 : decode cX1_invert 115 = .ok (.getfield 16, 3) := by decide +kernel
theorem dX1_invert_118 : decode cX1_invert 118 = .ok (.aload_n 0, 1) := by decide +kernel
theorem dX1_invert_119 : decode cX1_invert 119 = .ok (.getfield 22, 3) := by decide +kernel
theorem dX1_invert_122 : decode cX1_invert 122 = .ok (.invokevirtual 61, 3) := by decide +kernel
theorem dX1_invert_125 : decode cX1_invert 125 = .ok (.iinc 4 1, 3) := by decide +kernel
theorem dX1_invert_128 : decode cX1_invert 128 = .ok (.goto (-59), 3) := by decide +kernel
theorem dX1_invert_131 : decode cX1_invert 131 = .ok (.aload_n 0, 1) := by decide +kernel
theorem dX1_invert_132 : decode cX1_invert 132 = .ok (.aload_n 0, 1) := by decide +kernel
theorem dX1_invert_133 : decode cX1_invert 133 = .ok (.getfield 16, 3) := by decide +kernel
theorem dX1_invert_136 : decode cX1_invert 136 = .ok (.aload_n 0, 1) := by decide +kernel
theorem dX1_invert_137 : decode cX1_invert 137 = .ok (.getfield 16, 3) := by decide +kernel
theorem dX1_invert_140 : decode cX1_invert 140 = .ok (.invokevirtual 53, 3) := by decide +kernel
theorem dX1_invert_143 : decode cX1_invert 143 = .ok (.aload_n 0, 1) := by decide +kernel
theorem dX1_invert_144 : decode cX1_invert 144 = .ok (.iload_n 1, 1) := by decide +kernel
theorem dX1_invert_145 : decode cX1_invert 145 = .ok (.aload_n 0, 1) := by decide +kernel
theorem dX1_invert_146 : decode cX1_invert 146 = .ok (.getfield 22, 3) := by decide +kernel
theorem dX1_invert_149 : decode cX1_invert 149 = .ok (.invokevirtual 37, 3) := by decide +kernel
theorem dX1_invert_152 : decode cX1_invert 152 = .ok (.iconst 1, 1) := by decide +kernel
theorem dX1_invert_153 : decode cX1_invert 153 = .ok (.ireturn, 1) := by decide +kernel
abbrev cX1_trace : ByteArray := prog_3_method_19_code
def yX1_trace : MethodName := ⟨RX1, "trace", "(I)I"⟩
theorem dX1_trace_0 : decode cX1_trace 0 = .ok (.aload_n 0, 1) := by decide +kernel
theorem dX1_trace_1 : decode cX1_trace 1 = .ok (.aload_n 0, 1) := by decide +kernel
theorem dX1_trace_2 : decode cX1_trace 2 = .ok (.getfield 16, 3) := by decide +kernel
theorem dX1_trace_5 : decode cX1_trace 5 = .ok (.iload_n 1, 1) := by decide +kernel
theorem dX1_trace_6 : decode cX1_trace 6 = .ok (.invokevirtual 50, 3) := by decide +kernel
theorem dX1_trace_9 : decode cX1_trace 9 = .ok (.aload_n 0, 1) := by decide +kernel
theorem dX1_trace_10 : decode cX1_trace 10 = .ok (.aload_n 0, 1) := by decide +kernel
theorem dX1_trace_11 : decode cX1_trace 11 = .ok (.getfield 25, 3) := by decide +kernel
theorem dX1_trace_14 : decode cX1_trace 14 = .ok (.aload_n 0, 1) := by decide +kernel
theorem dX1_trace_15 : decode cX1_trace 15 = .ok (.getfield 16, 3) := by decide +kernel
theorem dX1_trace_18 : decode cX1_trace 18 = .ok (.invokevirtual 61, 3) := by decide +kernel
theorem dX1_trace_21 : decode cX1_trace 21 = .ok (.iconst 1, 1) := by decide +kernel
theorem dX1_trace_22 : decode cX1_trace 22 = .ok (.istore_n 2, 1) := by decide +kernel
theorem dX1_trace_23 : decode cX1_trace 23 = .ok (.iload_n 2, 1) := by decide +kernel
theorem dX1_trace_24 : decode cX1_trace 24 = .ok (.sipush 283, 3) := by decide +kernel
theorem dX1_trace_27 : decode cX1_trace 27 = .ok (.if_icmp .ge 65, 3) := by decide +kernel
theorem dX1_trace_30 : decode cX1_trace 30 = .ok (.aload_n 0, 1) := by decide +kernel
theorem dX1_trace_31 : decode cX1_trace 31 = .ok (.aload_n 0, 1) := by decide +kernel
theorem dX1_trace_32 : decode cX1_trace 32 = .ok (.getfield 16, 3) := by decide +kernel
theorem dX1_trace_35 : decode cX1_trace 35 = .ok (.aload_n 0, 1) := by decide +kernel
theorem dX1_trace_36 : decode cX1_trace 36 = .ok (.getfield 16, 3) := by decide +kernel
theorem dX1_trace_39 : decode cX1_trace 39 = .ok (.invokevirtual 53, 3) := by decide +kernel
theorem dX1_trace_42 : decode cX1_trace 42 = .ok (.aload_n 0, 1) := by decide +kernel
theorem dX1_trace_43 : decode cX1_trace 43 = .ok (.aload_n 0, 1) := by decide +kernel
theorem dX1_trace_44 : decode cX1_trace 44 = .ok (.getfield 16, 3) := by decide +kernel
theorem dX1_trace_47 : decode cX1_trace 47 = .ok (.aload_n 0, 1) := by decide +kernel
theorem dX1_trace_48 : decode cX1_trace 48 = .ok (.getfield 22, 3) := by decide +kernel
theorem dX1_trace_51 : decode cX1_trace 51 = .ok (.invokevirtual 61, 3) := by decide +kernel
theorem dX1_trace_54 : decode cX1_trace 54 = .ok (.iconst 0, 1) := by decide +kernel
theorem dX1_trace_55 : decode cX1_trace 55 = .ok (.istore_n 3, 1) := by decide +kernel
theorem dX1_trace_56 : decode cX1_trace 56 = .ok (.iload_n 3, 1) := by decide +kernel
theorem dX1_trace_57 : decode cX1_trace 57 = .ok (.iconst 5, 1) := by decide +kernel
theorem dX1_trace_58 : decode cX1_trace 58 = .ok (.if_icmp .ge 28, 3) := by decide +kernel
theorem dX1_trace_61 : decode cX1_trace 61 = .ok (.aload_n 0, 1) := by decide +kernel
theorem dX1_trace_62 : decode cX1_trace 62 = .ok (.getfield 25, 3) := by decide +kernel
theorem dX1_trace_65 : decode cX1_trace 65 = .ok (.iload_n 3, 1) := by decide +kernel
theorem dX1_trace_66 : decode cX1_trace 66 = .ok (.aload_n 0, 1) := by decide +kernel
theorem dX1_trace_67 : decode cX1_trace 67 = .ok (.getfield 25, 3) := by decide +kernel
theorem dX1_trace_70 : decode cX1_trace 70 = .ok (.iload_n 3, 1) := by decide +kernel
theorem dX1_trace_71 : decode cX1_trace 71 = .ok (.laload, 1) := by decide +kernel
theorem dX1_trace_72 : decode cX1_trace 72 = .ok (.aload_n 0, 1) := by decide +kernel
theorem dX1_trace_73 : decode cX1_trace 73 = .ok (.getfield 16, 3) := by decide +kernel
theorem dX1_trace_76 : decode cX1_trace 76 = .ok (.iload_n 3, 1) := by decide +kernel
theorem dX1_trace_77 : decode cX1_trace 77 = .ok (.laload, 1) := by decide +kernel
theorem dX1_trace_78 : decode cX1_trace 78 = .ok (.lxor, 1) := by decide +kernel
theorem dX1_trace_79 : decode cX1_trace 79 = .ok (.lastore, 1) := by decide +kernel
theorem dX1_trace_80 : decode cX1_trace 80 = .ok (.iinc 3 1, 3) := by decide +kernel
theorem dX1_trace_83 : decode cX1_trace 83 = .ok (.goto (-27), 3) := by decide +kernel
theorem dX1_trace_86 : decode cX1_trace 86 = .ok (.iinc 2 1, 3) := by decide +kernel
theorem dX1_trace_89 : decode cX1_trace 89 = .ok (.goto (-66), 3) := by decide +kernel
theorem dX1_trace_92 : decode cX1_trace 92 = .ok (.aload_n 0, 1) := by decide +kernel
theorem dX1_trace_93 : decode cX1_trace 93 = .ok (.getfield 25, 3) := by decide +kernel
theorem dX1_trace_96 : decode cX1_trace 96 = .ok (.iconst 0, 1) := by decide +kernel
theorem dX1_trace_97 : decode cX1_trace 97 = .ok (.laload, 1) := by decide +kernel
theorem dX1_trace_98 : decode cX1_trace 98 = .ok (.l2i, 1) := by decide +kernel
theorem dX1_trace_99 : decode cX1_trace 99 = .ok (.ireturn, 1) := by decide +kernel
theorem q12 : (Jvm.Cond.initialized "Field283Model") ∈ lw_all := lw_g (lw_at lw_m0 2 rfl) rfl
theorem q143 : (Jvm.Cond.instantiable "Field283Model" (6 : Nat)) ∈ lw_all := lw_g (lw_at lw_m0 133 rfl) rfl
theorem q145 : (Jvm.Cond.instanceMethod ({ cls := "Field283Model", name := "<init>", desc := "()V" } : Jvm.MethodName)) ∈ lw_all := lw_g (lw_at lw_m0 135 rfl) rfl
theorem q146 : (Jvm.Cond.code ({ cls := "Field283Model", name := "<init>", desc := "()V" } : Jvm.MethodName) prog_3_method_1_code (1 : Nat) (Option.none : Option Jvm.ClassFile.FieldType)) ∈ lw_all := lw_g (lw_at lw_m0 136 rfl) rfl
theorem q147 : (Jvm.Cond.methodLink "Field283Model" (1 : Nat) ({ cls := "java/lang/Object", name := "<init>", desc := "()V" } : Jvm.MethodName)) ∈ lw_all := lw_g (lw_at lw_m0 137 rfl) rfl
theorem q148 : (Jvm.Cond.fieldLink "Field283Model" (7 : Nat) "Field283Model" "file" "[J") ∈ lw_all := lw_g (lw_at lw_m0 138 rfl) rfl
theorem q149 : (Jvm.Cond.fieldLink "Field283Model" (13 : Nat) "Field283Model" "line" "[J") ∈ lw_all := lw_g (lw_at lw_m0 139 rfl) rfl
theorem q150 : (Jvm.Cond.fieldLink "Field283Model" (16 : Nat) "Field283Model" "x" "[J") ∈ lw_all := lw_g (lw_at lw_m0 140 rfl) rfl
theorem q151 : (Jvm.Cond.fieldLink "Field283Model" (19 : Nat) "Field283Model" "y" "[J") ∈ lw_all := lw_g (lw_at lw_m0 141 rfl) rfl
theorem q152 : (Jvm.Cond.fieldLink "Field283Model" (22 : Nat) "Field283Model" "z" "[J") ∈ lw_all := lw_g (lw_at lw_m0 142 rfl) rfl
theorem q153 : (Jvm.Cond.fieldLink "Field283Model" (25 : Nat) "Field283Model" "a" "[J") ∈ lw_all := lw_g (lw_at lw_m0 143 rfl) rfl
theorem q154 : (Jvm.Cond.laysFinal "Field283Model" "Field283Model" "file" "[J") ∈ lw_all := lw_g (lw_at lw_m0 144 rfl) rfl
theorem q155 : (Jvm.Cond.soleField "Field283Model" "file") ∈ lw_all := lw_g (lw_at lw_m0 145 rfl) rfl
theorem q156 : (Jvm.Cond.laysFinal "Field283Model" "Field283Model" "line" "[J") ∈ lw_all := lw_g (lw_at lw_m0 146 rfl) rfl
theorem q157 : (Jvm.Cond.soleField "Field283Model" "line") ∈ lw_all := lw_g (lw_at lw_m0 147 rfl) rfl
theorem q158 : (Jvm.Cond.laysFinal "Field283Model" "Field283Model" "x" "[J") ∈ lw_all := lw_g (lw_at lw_m0 148 rfl) rfl
theorem q159 : (Jvm.Cond.soleField "Field283Model" "x") ∈ lw_all := lw_g (lw_at lw_m0 149 rfl) rfl
theorem q160 : (Jvm.Cond.laysFinal "Field283Model" "Field283Model" "y" "[J") ∈ lw_all := lw_g (lw_at lw_m0 150 rfl) rfl
theorem q161 : (Jvm.Cond.soleField "Field283Model" "y") ∈ lw_all := lw_g (lw_at lw_m0 151 rfl) rfl
theorem q162 : (Jvm.Cond.laysFinal "Field283Model" "Field283Model" "z" "[J") ∈ lw_all := lw_g (lw_at lw_m0 152 rfl) rfl
theorem q163 : (Jvm.Cond.soleField "Field283Model" "z") ∈ lw_all := lw_g (lw_at lw_m0 153 rfl) rfl
theorem q164 : (Jvm.Cond.laysFinal "Field283Model" "Field283Model" "a" "[J") ∈ lw_all := lw_g (lw_at lw_m0 154 rfl) rfl
theorem q165 : (Jvm.Cond.soleField "Field283Model" "a") ∈ lw_all := lw_g (lw_at lw_m0 155 rfl) rfl
theorem q166 : (Jvm.Cond.superclass "Field283Model" "java/lang/Object") ∈ lw_all := lw_g (lw_at lw_m0 156 rfl) rfl
theorem q168 : (Jvm.Cond.instanceMethod ({ cls := "Field283Model", name := "line", desc := "(IIIII)V" } : Jvm.MethodName)) ∈ lw_all := lw_g (lw_at lw_m0 158 rfl) rfl
theorem q169 : (Jvm.Cond.selects "Field283Model" ({ cls := "Field283Model", name := "line", desc := "(IIIII)V" } : Jvm.MethodName) ({ cls := "Field283Model", name := "line", desc := "(IIIII)V" } : Jvm.MethodName)) ∈ lw_all := lw_g (lw_at lw_m0 159 rfl) rfl
theorem q170 : (Jvm.Cond.code ({ cls := "Field283Model", name := "line", desc := "(IIIII)V" } : Jvm.MethodName) prog_3_method_2_code (7 : Nat) (Option.none : Option Jvm.ClassFile.FieldType)) ∈ lw_all := lw_g (lw_at lw_m0 160 rfl) rfl
theorem q171 : (Jvm.Cond.constant "Field283Model" (28 : Nat) (2147483647 : Int32)) ∈ lw_all := lw_g (lw_at lw_m0 161 rfl) rfl
theorem q172 : (Jvm.Cond.constantLong "Field283Model" (29 : Nat) (4294967295 : Int64)) ∈ lw_all := lw_g (lw_at lw_m0 162 rfl) rfl
theorem q174 : (Jvm.Cond.instanceMethod ({ cls := "Field283Model", name := "load", desc := "(I)V" } : Jvm.MethodName)) ∈ lw_all := lw_g (lw_at lw_m0 164 rfl) rfl
theorem q175 : (Jvm.Cond.selects "Field283Model" ({ cls := "Field283Model", name := "load", desc := "(I)V" } : Jvm.MethodName) ({ cls := "Field283Model", name := "load", desc := "(I)V" } : Jvm.MethodName)) ∈ lw_all := lw_g (lw_at lw_m0 165 rfl) rfl
theorem q176 : (Jvm.Cond.code ({ cls := "Field283Model", name := "load", desc := "(I)V" } : Jvm.MethodName) prog_3_method_4_code (3 : Nat) (Option.none : Option Jvm.ClassFile.FieldType)) ∈ lw_all := lw_g (lw_at lw_m0 166 rfl) rfl
theorem q177 : (Jvm.Cond.methodLink "Field283Model" (33 : Nat) ({ cls := "Field283Model", name := "mask", desc := "([J)V" } : Jvm.MethodName)) ∈ lw_all := lw_g (lw_at lw_m0 167 rfl) rfl
theorem q178 : (Jvm.Cond.static ({ cls := "Field283Model", name := "mask", desc := "([J)V" } : Jvm.MethodName)) ∈ lw_all := lw_g (lw_at lw_m0 168 rfl) rfl
theorem q179 : (Jvm.Cond.code ({ cls := "Field283Model", name := "mask", desc := "([J)V" } : Jvm.MethodName) prog_3_method_3_code (1 : Nat) (Option.none : Option Jvm.ClassFile.FieldType)) ∈ lw_all := lw_g (lw_at lw_m0 169 rfl) rfl
theorem q180 : (Jvm.Cond.constantLong "Field283Model" (31 : Nat) (134217727 : Int64)) ∈ lw_all := lw_g (lw_at lw_m0 170 rfl) rfl
theorem q181 : (Jvm.Cond.methodLink "Field283Model" (37 : Nat) ({ cls := "Field283Model", name := "give", desc := "(I[J)V" } : Jvm.MethodName)) ∈ lw_all := lw_g (lw_at lw_m0 171 rfl) rfl
theorem q182 : (Jvm.Cond.privateMethod ({ cls := "Field283Model", name := "give", desc := "(I[J)V" } : Jvm.MethodName)) ∈ lw_tbl := lw_at lw_m0 172 rfl
theorem q183 : (Jvm.Cond.instanceMethod ({ cls := "Field283Model", name := "give", desc := "(I[J)V" } : Jvm.MethodName)) ∈ lw_all := lw_g (lw_at lw_m0 173 rfl) rfl
theorem q184 : (Jvm.Cond.code ({ cls := "Field283Model", name := "give", desc := "(I[J)V" } : Jvm.MethodName) prog_3_method_7_code (4 : Nat) (Option.none : Option Jvm.ClassFile.FieldType)) ∈ lw_all := lw_g (lw_at lw_m0 174 rfl) rfl
theorem q186 : (Jvm.Cond.instanceMethod ({ cls := "Field283Model", name := "word", desc := "(II)I" } : Jvm.MethodName)) ∈ lw_all := lw_g (lw_at lw_m0 176 rfl) rfl
theorem q187 : (Jvm.Cond.selects "Field283Model" ({ cls := "Field283Model", name := "word", desc := "(II)I" } : Jvm.MethodName) ({ cls := "Field283Model", name := "word", desc := "(II)I" } : Jvm.MethodName)) ∈ lw_all := lw_g (lw_at lw_m0 177 rfl) rfl
theorem q188 : (Jvm.Cond.code ({ cls := "Field283Model", name := "word", desc := "(II)I" } : Jvm.MethodName) prog_3_method_5_code (5 : Nat) (Option.some Jvm.ClassFile.FieldType.int)) ∈ lw_all := lw_g (lw_at lw_m0 178 rfl) rfl
theorem q189 : (Jvm.Cond.constant "Field283Model" (41 : Nat) (1073741823 : Int32)) ∈ lw_all := lw_g (lw_at lw_m0 179 rfl) rfl
theorem q191 : (Jvm.Cond.instanceMethod ({ cls := "Field283Model", name := "add", desc := "(III)V" } : Jvm.MethodName)) ∈ lw_all := lw_g (lw_at lw_m0 181 rfl) rfl
theorem q192 : (Jvm.Cond.selects "Field283Model" ({ cls := "Field283Model", name := "add", desc := "(III)V" } : Jvm.MethodName) ({ cls := "Field283Model", name := "add", desc := "(III)V" } : Jvm.MethodName)) ∈ lw_all := lw_g (lw_at lw_m0 182 rfl) rfl
theorem q193 : (Jvm.Cond.code ({ cls := "Field283Model", name := "add", desc := "(III)V" } : Jvm.MethodName) prog_3_method_12_code (5 : Nat) (Option.none : Option Jvm.ClassFile.FieldType)) ∈ lw_all := lw_g (lw_at lw_m0 183 rfl) rfl
theorem q194 : (Jvm.Cond.methodLink "Field283Model" (50 : Nat) ({ cls := "Field283Model", name := "take", desc := "([JI)V" } : Jvm.MethodName)) ∈ lw_all := lw_g (lw_at lw_m0 184 rfl) rfl
theorem q195 : (Jvm.Cond.privateMethod ({ cls := "Field283Model", name := "take", desc := "([JI)V" } : Jvm.MethodName)) ∈ lw_tbl := lw_at lw_m0 185 rfl
theorem q196 : (Jvm.Cond.instanceMethod ({ cls := "Field283Model", name := "take", desc := "([JI)V" } : Jvm.MethodName)) ∈ lw_all := lw_g (lw_at lw_m0 186 rfl) rfl
theorem q197 : (Jvm.Cond.code ({ cls := "Field283Model", name := "take", desc := "([JI)V" } : Jvm.MethodName) prog_3_method_6_code (4 : Nat) (Option.none : Option Jvm.ClassFile.FieldType)) ∈ lw_all := lw_g (lw_at lw_m0 187 rfl) rfl
theorem q199 : (Jvm.Cond.instanceMethod ({ cls := "Field283Model", name := "addOne", desc := "(II)V" } : Jvm.MethodName)) ∈ lw_all := lw_g (lw_at lw_m0 189 rfl) rfl
theorem q200 : (Jvm.Cond.selects "Field283Model" ({ cls := "Field283Model", name := "addOne", desc := "(II)V" } : Jvm.MethodName) ({ cls := "Field283Model", name := "addOne", desc := "(II)V" } : Jvm.MethodName)) ∈ lw_all := lw_g (lw_at lw_m0 190 rfl) rfl
theorem q201 : (Jvm.Cond.code ({ cls := "Field283Model", name := "addOne", desc := "(II)V" } : Jvm.MethodName) prog_3_method_13_code (3 : Nat) (Option.none : Option Jvm.ClassFile.FieldType)) ∈ lw_all := lw_g (lw_at lw_m0 191 rfl) rfl
theorem q202 : (Jvm.Cond.methodLink "Field283Model" (46 : Nat) ({ cls := "Field283Model", name := "flip", desc := "([JI)V" } : Jvm.MethodName)) ∈ lw_all := lw_g (lw_at lw_m0 192 rfl) rfl
theorem q203 : (Jvm.Cond.static ({ cls := "Field283Model", name := "flip", desc := "([JI)V" } : Jvm.MethodName)) ∈ lw_all := lw_g (lw_at lw_m0 193 rfl) rfl
theorem q204 : (Jvm.Cond.code ({ cls := "Field283Model", name := "flip", desc := "([JI)V" } : Jvm.MethodName) prog_3_method_9_code (2 : Nat) (Option.none : Option Jvm.ClassFile.FieldType)) ∈ lw_all := lw_g (lw_at lw_m0 194 rfl) rfl
theorem q206 : (Jvm.Cond.instanceMethod ({ cls := "Field283Model", name := "multiply", desc := "(III)V" } : Jvm.MethodName)) ∈ lw_all := lw_g (lw_at lw_m0 196 rfl) rfl
theorem q207 : (Jvm.Cond.selects "Field283Model" ({ cls := "Field283Model", name := "multiply", desc := "(III)V" } : Jvm.MethodName) ({ cls := "Field283Model", name := "multiply", desc := "(III)V" } : Jvm.MethodName)) ∈ lw_all := lw_g (lw_at lw_m0 197 rfl) rfl
theorem q208 : (Jvm.Cond.code ({ cls := "Field283Model", name := "multiply", desc := "(III)V" } : Jvm.MethodName) prog_3_method_14_code (4 : Nat) (Option.none : Option Jvm.ClassFile.FieldType)) ∈ lw_all := lw_g (lw_at lw_m0 198 rfl) rfl
theorem q209 : (Jvm.Cond.methodLink "Field283Model" (53 : Nat) ({ cls := "Field283Model", name := "times", desc := "([J[J)V" } : Jvm.MethodName)) ∈ lw_all := lw_g (lw_at lw_m0 199 rfl) rfl
theorem q210 : (Jvm.Cond.privateMethod ({ cls := "Field283Model", name := "times", desc := "([J[J)V" } : Jvm.MethodName)) ∈ lw_tbl := lw_at lw_m0 200 rfl
theorem q211 : (Jvm.Cond.instanceMethod ({ cls := "Field283Model", name := "times", desc := "([J[J)V" } : Jvm.MethodName)) ∈ lw_all := lw_g (lw_at lw_m0 201 rfl) rfl
theorem q212 : (Jvm.Cond.code ({ cls := "Field283Model", name := "times", desc := "([J[J)V" } : Jvm.MethodName) prog_3_method_10_code (6 : Nat) (Option.none : Option Jvm.ClassFile.FieldType)) ∈ lw_all := lw_g (lw_at lw_m0 202 rfl) rfl
theorem q213 : (Jvm.Cond.methodLink "Field283Model" (42 : Nat) ({ cls := "Field283Model", name := "bit", desc := "([JI)Z" } : Jvm.MethodName)) ∈ lw_all := lw_g (lw_at lw_m0 203 rfl) rfl
theorem q214 : (Jvm.Cond.static ({ cls := "Field283Model", name := "bit", desc := "([JI)Z" } : Jvm.MethodName)) ∈ lw_all := lw_g (lw_at lw_m0 204 rfl) rfl
theorem q215 : (Jvm.Cond.code ({ cls := "Field283Model", name := "bit", desc := "([JI)Z" } : Jvm.MethodName) prog_3_method_8_code (2 : Nat) (Option.some Jvm.ClassFile.FieldType.boolean)) ∈ lw_all := lw_g (lw_at lw_m0 205 rfl) rfl
theorem q217 : (Jvm.Cond.instanceMethod ({ cls := "Field283Model", name := "square", desc := "(II)V" } : Jvm.MethodName)) ∈ lw_all := lw_g (lw_at lw_m0 207 rfl) rfl
theorem q218 : (Jvm.Cond.selects "Field283Model" ({ cls := "Field283Model", name := "square", desc := "(II)V" } : Jvm.MethodName) ({ cls := "Field283Model", name := "square", desc := "(II)V" } : Jvm.MethodName)) ∈ lw_all := lw_g (lw_at lw_m0 208 rfl) rfl
theorem q219 : (Jvm.Cond.code ({ cls := "Field283Model", name := "square", desc := "(II)V" } : Jvm.MethodName) prog_3_method_15_code (3 : Nat) (Option.none : Option Jvm.ClassFile.FieldType)) ∈ lw_all := lw_g (lw_at lw_m0 209 rfl) rfl
theorem q220 : (Jvm.Cond.methodLink "Field283Model" (57 : Nat) ({ cls := "Field283Model", name := "squares", desc := "(III)V" } : Jvm.MethodName)) ∈ lw_all := lw_g (lw_at lw_m0 210 rfl) rfl
theorem q221 : (Jvm.Cond.instanceMethod ({ cls := "Field283Model", name := "squares", desc := "(III)V" } : Jvm.MethodName)) ∈ lw_all := lw_g (lw_at lw_m0 211 rfl) rfl
theorem q222 : (Jvm.Cond.selects "Field283Model" ({ cls := "Field283Model", name := "squares", desc := "(III)V" } : Jvm.MethodName) ({ cls := "Field283Model", name := "squares", desc := "(III)V" } : Jvm.MethodName)) ∈ lw_all := lw_g (lw_at lw_m0 212 rfl) rfl
theorem q223 : (Jvm.Cond.code ({ cls := "Field283Model", name := "squares", desc := "(III)V" } : Jvm.MethodName) prog_3_method_16_code (5 : Nat) (Option.none : Option Jvm.ClassFile.FieldType)) ∈ lw_all := lw_g (lw_at lw_m0 213 rfl) rfl
theorem q224 : (Jvm.Cond.methodLink "Field283Model" (61 : Nat) ({ cls := "Field283Model", name := "copy", desc := "([J[J)V" } : Jvm.MethodName)) ∈ lw_all := lw_g (lw_at lw_m0 214 rfl) rfl
theorem q225 : (Jvm.Cond.privateMethod ({ cls := "Field283Model", name := "copy", desc := "([J[J)V" } : Jvm.MethodName)) ∈ lw_tbl := lw_at lw_m0 215 rfl
theorem q226 : (Jvm.Cond.instanceMethod ({ cls := "Field283Model", name := "copy", desc := "([J[J)V" } : Jvm.MethodName)) ∈ lw_all := lw_g (lw_at lw_m0 216 rfl) rfl
theorem q227 : (Jvm.Cond.code ({ cls := "Field283Model", name := "copy", desc := "([J[J)V" } : Jvm.MethodName) prog_3_method_11_code (4 : Nat) (Option.none : Option Jvm.ClassFile.FieldType)) ∈ lw_all := lw_g (lw_at lw_m0 217 rfl) rfl
theorem q230 : (Jvm.Cond.instanceMethod ({ cls := "Field283Model", name := "root", desc := "(II)V" } : Jvm.MethodName)) ∈ lw_all := lw_g (lw_at lw_m0 220 rfl) rfl
theorem q231 : (Jvm.Cond.selects "Field283Model" ({ cls := "Field283Model", name := "root", desc := "(II)V" } : Jvm.MethodName) ({ cls := "Field283Model", name := "root", desc := "(II)V" } : Jvm.MethodName)) ∈ lw_all := lw_g (lw_at lw_m0 221 rfl) rfl
theorem q232 : (Jvm.Cond.code ({ cls := "Field283Model", name := "root", desc := "(II)V" } : Jvm.MethodName) prog_3_method_17_code (4 : Nat) (Option.none : Option Jvm.ClassFile.FieldType)) ∈ lw_all := lw_g (lw_at lw_m0 222 rfl) rfl
theorem q234 : (Jvm.Cond.instanceMethod ({ cls := "Field283Model", name := "invert", desc := "(II)Z" } : Jvm.MethodName)) ∈ lw_all := lw_g (lw_at lw_m0 224 rfl) rfl
theorem q235 : (Jvm.Cond.selects "Field283Model" ({ cls := "Field283Model", name := "invert", desc := "(II)Z" } : Jvm.MethodName) ({ cls := "Field283Model", name := "invert", desc := "(II)Z" } : Jvm.MethodName)) ∈ lw_all := lw_g (lw_at lw_m0 225 rfl) rfl
theorem q236 : (Jvm.Cond.code ({ cls := "Field283Model", name := "invert", desc := "(II)Z" } : Jvm.MethodName) prog_3_method_18_code (5 : Nat) (Option.some Jvm.ClassFile.FieldType.boolean)) ∈ lw_all := lw_g (lw_at lw_m0 226 rfl) rfl
theorem q238 : (Jvm.Cond.instanceMethod ({ cls := "Field283Model", name := "trace", desc := "(I)I" } : Jvm.MethodName)) ∈ lw_all := lw_g (lw_at lw_m0 228 rfl) rfl
theorem q239 : (Jvm.Cond.selects "Field283Model" ({ cls := "Field283Model", name := "trace", desc := "(I)I" } : Jvm.MethodName) ({ cls := "Field283Model", name := "trace", desc := "(I)I" } : Jvm.MethodName)) ∈ lw_all := lw_g (lw_at lw_m0 229 rfl) rfl
theorem q240 : (Jvm.Cond.code ({ cls := "Field283Model", name := "trace", desc := "(I)I" } : Jvm.MethodName) prog_3_method_19_code (4 : Nat) (Option.some Jvm.ClassFile.FieldType.int)) ∈ lw_all := lw_g (lw_at lw_m0 230 rfl) rfl
theorem in_X1 : ∀ w ∈ wsX10, w ∈ lw_all := lw_in wsX10 [154, 156, 158, 160, 162, 164] (by decide +kernel) (by decide +kernel)
end
section
set_option maxRecDepth 100000
/-! the law's own entry -/
abbrev cL_law : ByteArray := code
theorem dL_law_0 : decode cL_law 0 = .ok (.new 7, 3) := by decide +kernel
theorem dL_law_3 : decode cL_law 3 = .ok (.dup, 1) := by decide +kernel
theorem dL_law_4 : decode cL_law 4 = .ok (.invokespecial 9, 3) := by decide +kernel
theorem dL_law_7 : decode cL_law 7 = .ok (.astore_n 1, 1) := by decide +kernel
theorem dL_law_8 : decode cL_law 8 = .ok (.new 10, 3) := by decide +kernel
theorem dL_law_11 : decode cL_law 11 = .ok (.dup, 1) := by decide +kernel
theorem dL_law_12 : decode cL_law 12 = .ok (.invokespecial 12, 3) := by decide +kernel
theorem dL_law_15 : decode cL_law 15 = .ok (.astore_n 2, 1) := by decide +kernel
theorem dL_law_16 : decode cL_law 16 = .ok (.iconst 0, 1) := by decide +kernel
theorem dL_law_17 : decode cL_law 17 = .ok (.istore_n 3, 1) := by decide +kernel
theorem dL_law_18 : decode cL_law 18 = .ok (.iload_n 3, 1) := by decide +kernel
theorem dL_law_19 : decode cL_law 19 = .ok (.aload_n 0, 1) := by decide +kernel
theorem dL_law_20 : decode cL_law 20 = .ok (.arraylength, 1) := by decide +kernel
theorem dL_law_21 : decode cL_law 21 = .ok (.bipush 6, 2) := by decide +kernel
theorem dL_law_23 : decode cL_law 23 = .ok (.isub, 1) := by decide +kernel
theorem dL_law_24 : decode cL_law 24 = .ok (.if_icmp .gt 461, 3) := by decide +kernel
theorem dL_law_27 : decode cL_law 27 = .ok (.aload_n 0, 1) := by decide +kernel
theorem dL_law_28 : decode cL_law 28 = .ok (.iload_n 3, 1) := by decide +kernel
theorem dL_law_29 : decode cL_law 29 = .ok (.iaload, 1) := by decide +kernel
theorem dL_law_30 : decode cL_law 30 = .ok (.bipush 15, 2) := by decide +kernel
theorem dL_law_32 : decode cL_law 32 = .ok (.iand, 1) := by decide +kernel
theorem dL_law_33 : decode cL_law 33 = .ok (.tableswitch 446 0 10 #[59, 120, 141, 174, 215, 246, 287, 318, 359, 390, 423], 59) := by decide +kernel
theorem dL_law_92 : decode cL_law 92 = .ok (.aload_n 1, 1) := by decide +kernel
theorem dL_law_93 : decode cL_law 93 = .ok (.aload_n 0, 1) := by decide +kernel
theorem dL_law_94 : decode cL_law 94 = .ok (.iload_n 3, 1) := by decide +kernel
theorem dL_law_95 : decode cL_law 95 = .ok (.iconst 1, 1) := by decide +kernel
theorem dL_law_96 : decode cL_law 96 = .ok (.iadd, 1) := by decide +kernel
theorem dL_law_97 : decode cL_law 97 = .ok (.iaload, 1) := by decide +kernel
theorem dL_law_98 : decode cL_law 98 = .ok (.aload_n 0, 1) := by decide +kernel
theorem dL_law_99 : decode cL_law 99 = .ok (.iload_n 3, 1) := by decide +kernel
theorem dL_law_100 : decode cL_law 100 = .ok (.iconst 2, 1) := by decide +kernel
theorem dL_law_101 : decode cL_law 101 = .ok (.iadd, 1) := by decide +kernel
theorem dL_law_102 : decode cL_law 102 = .ok (.iaload, 1) := by decide +kernel
theorem dL_law_103 : decode cL_law 103 = .ok (.aload_n 0, 1) := by decide +kernel
theorem dL_law_104 : decode cL_law 104 = .ok (.iload_n 3, 1) := by decide +kernel
theorem dL_law_105 : decode cL_law 105 = .ok (.iconst 3, 1) := by decide +kernel
theorem dL_law_106 : decode cL_law 106 = .ok (.iadd, 1) := by decide +kernel
theorem dL_law_107 : decode cL_law 107 = .ok (.iaload, 1) := by decide +kernel
theorem dL_law_108 : decode cL_law 108 = .ok (.aload_n 0, 1) := by decide +kernel
theorem dL_law_109 : decode cL_law 109 = .ok (.iload_n 3, 1) := by decide +kernel
theorem dL_law_110 : decode cL_law 110 = .ok (.iconst 4, 1) := by decide +kernel
theorem dL_law_111 : decode cL_law 111 = .ok (.iadd, 1) := by decide +kernel
theorem dL_law_112 : decode cL_law 112 = .ok (.iaload, 1) := by decide +kernel
theorem dL_law_113 : decode cL_law 113 = .ok (.aload_n 0, 1) := by decide +kernel
theorem dL_law_114 : decode cL_law 114 = .ok (.iload_n 3, 1) := by decide +kernel
theorem dL_law_115 : decode cL_law 115 = .ok (.iconst 5, 1) := by decide +kernel
theorem dL_law_116 : decode cL_law 116 = .ok (.iadd, 1) := by decide +kernel
theorem dL_law_117 : decode cL_law 117 = .ok (.iaload, 1) := by decide +kernel
theorem dL_law_118 : decode cL_law 118 = .ok (.invokevirtual 13, 3) := by decide +kernel
theorem dL_law_121 : decode cL_law 121 = .ok (.aload_n 2, 1) := by decide +kernel
theorem dL_law_122 : decode cL_law 122 = .ok (.aload_n 0, 1) := by decide +kernel
theorem dL_law_123 : decode cL_law 123 = .ok (.iload_n 3, 1) := by decide +kernel
theorem dL_law_124 : decode cL_law 124 = .ok (.iconst 1, 1) := by decide +kernel
theorem dL_law_125 : decode cL_law 125 = .ok (.iadd, 1) := by decide +kernel
theorem dL_law_126 : decode cL_law 126 = .ok (.iaload, 1) := by decide +kernel
theorem dL_law_127 : decode cL_law 127 = .ok (.aload_n 0, 1) := by decide +kernel
theorem dL_law_128 : decode cL_law 128 = .ok (.iload_n 3, 1) := by decide +kernel
theorem dL_law_129 : decode cL_law 129 = .ok (.iconst 2, 1) := by decide +kernel
theorem dL_law_130 : decode cL_law 130 = .ok (.iadd, 1) := by decide +kernel
theorem dL_law_131 : decode cL_law 131 = .ok (.iaload, 1) := by decide +kernel
theorem dL_law_132 : decode cL_law 132 = .ok (.aload_n 0, 1) := by decide +kernel
theorem dL_law_133 : decode cL_law 133 = .ok (.iload_n 3, 1) := by decide +kernel
theorem dL_law_134 : decode cL_law 134 = .ok (.iconst 3, 1) := by decide +kernel
theorem dL_law_135 : decode cL_law 135 = .ok (.iadd, 1) := by decide +kernel
theorem dL_law_136 : decode cL_law 136 = .ok (.iaload, 1) := by decide +kernel
theorem dL_law_137 : decode cL_law 137 = .ok (.aload_n 0, 1) := by decide +kernel
theorem dL_law_138 : decode cL_law 138 = .ok (.iload_n 3, 1) := by decide +kernel
theorem dL_law_139 : decode cL_law 139 = .ok (.iconst 4, 1) := by decide +kernel
theorem dL_law_140 : decode cL_law 140 = .ok (.iadd, 1) := by decide +kernel
theorem dL_law_141 : decode cL_law 141 = .ok (.iaload, 1) := by decide +kernel
theorem dL_law_142 : decode cL_law 142 = .ok (.aload_n 0, 1) := by decide +kernel
theorem dL_law_143 : decode cL_law 143 = .ok (.iload_n 3, 1) := by decide +kernel
theorem dL_law_144 : decode cL_law 144 = .ok (.iconst 5, 1) := by decide +kernel
theorem dL_law_145 : decode cL_law 145 = .ok (.iadd, 1) := by decide +kernel
theorem dL_law_146 : decode cL_law 146 = .ok (.iaload, 1) := by decide +kernel
theorem dL_law_147 : decode cL_law 147 = .ok (.invokevirtual 17, 3) := by decide +kernel
theorem dL_law_150 : decode cL_law 150 = .ok (.goto 329, 3) := by decide +kernel
theorem dL_law_153 : decode cL_law 153 = .ok (.aload_n 1, 1) := by decide +kernel
theorem dL_law_154 : decode cL_law 154 = .ok (.aload_n 0, 1) := by decide +kernel
theorem dL_law_155 : decode cL_law 155 = .ok (.iload_n 3, 1) := by decide +kernel
theorem dL_law_156 : decode cL_law 156 = .ok (.iconst 1, 1) := by decide +kernel
theorem dL_law_157 : decode cL_law 157 = .ok (.iadd, 1) := by decide +kernel
theorem dL_law_158 : decode cL_law 158 = .ok (.iaload, 1) := by decide +kernel
theorem dL_law_159 : decode cL_law 159 = .ok (.invokevirtual 18, 3) := by decide +kernel
theorem dL_law_162 : decode cL_law 162 = .ok (.aload_n 2, 1) := by decide +kernel
theorem dL_law_163 : decode cL_law 163 = .ok (.aload_n 0, 1) := by decide +kernel
theorem dL_law_164 : decode cL_law 164 = .ok (.iload_n 3, 1) := by decide +kernel
theorem dL_law_165 : decode cL_law 165 = .ok (.iconst 1, 1) := by decide +kernel
theorem dL_law_166 : decode cL_law 166 = .ok (.iadd, 1) := by decide +kernel
theorem dL_law_167 : decode cL_law 167 = .ok (.iaload, 1) := by decide +kernel
theorem dL_law_168 : decode cL_law 168 = .ok (.invokevirtual 22, 3) := by decide +kernel
theorem dL_law_171 : decode cL_law 171 = .ok (.goto 308, 3) := by decide +kernel
theorem dL_law_174 : decode cL_law 174 = .ok (.aload_n 1, 1) := by decide +kernel
theorem dL_law_175 : decode cL_law 175 = .ok (.aload_n 0, 1) := by decide +kernel
theorem dL_law_176 : decode cL_law 176 = .ok (.iload_n 3, 1) := by decide +kernel
theorem dL_law_177 : decode cL_law 177 = .ok (.iconst 1, 1) := by decide +kernel
theorem dL_law_178 : decode cL_law 178 = .ok (.iadd, 1) := by decide +kernel
theorem dL_law_179 : decode cL_law 179 = .ok (.iaload, 1) := by decide +kernel
theorem dL_law_180 : decode cL_law 180 = .ok (.aload_n 0, 1) := by decide +kernel
theorem dL_law_181 : decode cL_law 181 = .ok (.iload_n 3, 1) := by decide +kernel
theorem dL_law_182 : decode cL_law 182 = .ok (.iconst 2, 1) := by decide +kernel
theorem dL_law_183 : decode cL_law 183 = .ok (.iadd, 1) := by decide +kernel
theorem dL_law_184 : decode cL_law 184 = .ok (.iaload, 1) := by decide +kernel
theorem dL_law_185 : decode cL_law 185 = .ok (.invokevirtual 23, 3) := by decide +kernel
theorem dL_law_188 : decode cL_law 188 = .ok (.aload_n 2, 1) := by decide +kernel
theorem dL_law_189 : decode cL_law 189 = .ok (.aload_n 0, 1) := by decide +kernel
theorem dL_law_190 : decode cL_law 190 = .ok (.iload_n 3, 1) := by decide +kernel
theorem dL_law_191 : decode cL_law 191 = .ok (.iconst 1, 1) := by decide +kernel
theorem dL_law_192 : decode cL_law 192 = .ok (.iadd, 1) := by decide +kernel
theorem dL_law_193 : decode cL_law 193 = .ok (.iaload, 1) := by decide +kernel
theorem dL_law_194 : decode cL_law 194 = .ok (.aload_n 0, 1) := by decide +kernel
theorem dL_law_195 : decode cL_law 195 = .ok (.iload_n 3, 1) := by decide +kernel
theorem dL_law_196 : decode cL_law 196 = .ok (.iconst 2, 1) := by decide +kernel
theorem dL_law_197 : decode cL_law 197 = .ok (.iadd, 1) := by decide +kernel
theorem dL_law_198 : decode cL_law 198 = .ok (.iaload, 1) := by decide +kernel
theorem dL_law_199 : decode cL_law 199 = .ok (.invokevirtual 27, 3) := by decide +kernel
theorem dL_law_202 : decode cL_law 202 = .ok (.if_icmp .eq 277, 3) := by decide +kernel
theorem dL_law_205 : decode cL_law 205 = .ok (.iconst 0, 1) := by decide +kernel
theorem dL_law_206 : decode cL_law 206 = .ok (.ireturn, 1) := by decide +kernel
theorem dL_law_207 : decode cL_law 207 = .ok (.aload_n 1, 1) := by decide +kernel
theorem dL_law_208 : decode cL_law 208 = .ok (.aload_n 0, 1) := by decide +kernel
theorem dL_law_209 : decode cL_law 209 = .ok (.iload_n 3, 1) := by decide +kernel
theorem dL_law_210 : decode cL_law 210 = .ok (.iconst 1, 1) := by decide +kernel
theorem dL_law_211 : decode cL_law 211 = .ok (.iadd, 1) := by decide +kernel
theorem dL_law_212 : decode cL_law 212 = .ok (.iaload, 1) := by decide +kernel
theorem dL_law_213 : decode cL_law 213 = .ok (.aload_n 0, 1) := by decide +kernel
theorem dL_law_214 : decode cL_law 214 = .ok (.iload_n 3, 1) := by decide +kernel
theorem dL_law_215 : decode cL_law 215 = .ok (.iconst 2, 1) := by decide +kernel
theorem dL_law_216 : decode cL_law 216 = .ok (.iadd, 1) := by decide +kernel
theorem dL_law_217 : decode cL_law 217 = .ok (.iaload, 1) := by decide +kernel
theorem dL_law_218 : decode cL_law 218 = .ok (.aload_n 0, 1) := by decide +kernel
theorem dL_law_219 : decode cL_law 219 = .ok (.iload_n 3, 1) := by decide +kernel
theorem dL_law_220 : decode cL_law 220 = .ok (.iconst 3, 1) := by decide +kernel
theorem dL_law_221 : decode cL_law 221 = .ok (.iadd, 1) := by decide +kernel
theorem dL_law_222 : decode cL_law 222 = .ok (.iaload, 1) := by decide +kernel
theorem dL_law_223 : decode cL_law 223 = .ok (.invokevirtual 28, 3) := by decide +kernel
theorem dL_law_226 : decode cL_law 226 = .ok (.aload_n 2, 1) := by decide +kernel
theorem dL_law_227 : decode cL_law 227 = .ok (.aload_n 0, 1) := by decide +kernel
theorem dL_law_228 : decode cL_law 228 = .ok (.iload_n 3, 1) := by decide +kernel
theorem dL_law_229 : decode cL_law 229 = .ok (.iconst 1, 1) := by decide +kernel
theorem dL_law_230 : decode cL_law 230 = .ok (.iadd, 1) := by decide +kernel
theorem dL_law_231 : decode cL_law 231 = .ok (.iaload, 1) := by decide +kernel
theorem dL_law_232 : decode cL_law 232 = .ok (.aload_n 0, 1) := by decide +kernel
theorem dL_law_233 : decode cL_law 233 = .ok (.iload_n 3, 1) := by decide +kernel
theorem dL_law_234 : decode cL_law 234 = .ok (.iconst 2, 1) := by decide +kernel
theorem dL_law_235 : decode cL_law 235 = .ok (.iadd, 1) := by decide +kernel
theorem dL_law_236 : decode cL_law 236 = .ok (.iaload, 1) := by decide +kernel
theorem dL_law_237 : decode cL_law 237 = .ok (.aload_n 0, 1) := by decide +kernel
theorem dL_law_238 : decode cL_law 238 = .ok (.iload_n 3, 1) := by decide +kernel
theorem dL_law_239 : decode cL_law 239 = .ok (.iconst 3, 1) := by decide +kernel
theorem dL_law_240 : decode cL_law 240 = .ok (.iadd, 1) := by decide +kernel
theorem dL_law_241 : decode cL_law 241 = .ok (.iaload, 1) := by decide +kernel
theorem dL_law_242 : decode cL_law 242 = .ok (.invokevirtual 32, 3) := by decide +kernel
theorem dL_law_245 : decode cL_law 245 = .ok (.goto 234, 3) := by decide +kernel
theorem dL_law_248 : decode cL_law 248 = .ok (.aload_n 1, 1) := by decide +kernel
theorem dL_law_249 : decode cL_law 249 = .ok (.aload_n 0, 1) := by decide +kernel
theorem dL_law_250 : decode cL_law 250 = .ok (.iload_n 3, 1) := by decide +kernel
theorem dL_law_251 : decode cL_law 251 = .ok (.iconst 1, 1) := by decide +kernel
theorem dL_law_252 : decode cL_law 252 = .ok (.iadd, 1) := by decide +kernel
theorem dL_law_253 : decode cL_law 253 = .ok (.iaload, 1) := by decide +kernel
theorem dL_law_254 : decode cL_law 254 = .ok (.aload_n 0, 1) := by decide +kernel
theorem dL_law_255 : decode cL_law 255 = .ok (.iload_n 3, 1) := by decide +kernel
theorem dL_law_256 : decode cL_law 256 = .ok (.iconst 2, 1) := by decide +kernel
theorem dL_law_257 : decode cL_law 257 = .ok (.iadd, 1) := by decide +kernel
theorem dL_law_258 : decode cL_law 258 = .ok (.iaload, 1) := by decide +kernel
theorem dL_law_259 : decode cL_law 259 = .ok (.invokevirtual 33, 3) := by decide +kernel
theorem dL_law_262 : decode cL_law 262 = .ok (.aload_n 2, 1) := by decide +kernel
theorem dL_law_263 : decode cL_law 263 = .ok (.aload_n 0, 1) := by decide +kernel
theorem dL_law_264 : decode cL_law 264 = .ok (.iload_n 3, 1) := by decide +kernel
theorem dL_law_265 : decode cL_law 265 = .ok (.iconst 1, 1) := by decide +kernel
theorem dL_law_266 : decode cL_law 266 = .ok (.iadd, 1) := by decide +kernel
theorem dL_law_267 : decode cL_law 267 = .ok (.iaload, 1) := by decide +kernel
theorem dL_law_268 : decode cL_law 268 = .ok (.aload_n 0, 1) := by decide +kernel
theorem dL_law_269 : decode cL_law 269 = .ok (.iload_n 3, 1) := by decide +kernel
theorem dL_law_270 : decode cL_law 270 = .ok (.iconst 2, 1) := by decide +kernel
theorem dL_law_271 : decode cL_law 271 = .ok (.iadd, 1) := by decide +kernel
theorem dL_law_272 : decode cL_law 272 = .ok (.iaload, 1) := by decide +kernel
theorem dL_law_273 : decode cL_law 273 = .ok (.invokevirtual 37, 3) := by decide +kernel
theorem dL_law_276 : decode cL_law 276 = .ok (.goto 203, 3) := by decide +kernel
theorem dL_law_279 : decode cL_law 279 = .ok (.aload_n 1, 1) := by decide +kernel
theorem dL_law_280 : decode cL_law 280 = .ok (.aload_n 0, 1) := by decide +kernel
theorem dL_law_281 : decode cL_law 281 = .ok (.iload_n 3, 1) := by decide +kernel
theorem dL_law_282 : decode cL_law 282 = .ok (.iconst 1, 1) := by decide +kernel
theorem dL_law_283 : decode cL_law 283 = .ok (.iadd, 1) := by decide +kernel
theorem dL_law_284 : decode cL_law 284 = .ok (.iaload, 1) := by decide +kernel
theorem dL_law_285 : decode cL_law 285 = .ok (.aload_n 0, 1) := by decide +kernel
theorem dL_law_286 : decode cL_law 286 = .ok (.iload_n 3, 1) := by decide +kernel
theorem dL_law_287 : decode cL_law 287 = .ok (.iconst 2, 1) := by decide +kernel
theorem dL_law_288 : decode cL_law 288 = .ok (.iadd, 1) := by decide +kernel
theorem dL_law_289 : decode cL_law 289 = .ok (.iaload, 1) := by decide +kernel
theorem dL_law_290 : decode cL_law 290 = .ok (.aload_n 0, 1) := by decide +kernel
theorem dL_law_291 : decode cL_law 291 = .ok (.iload_n 3, 1) := by decide +kernel
theorem dL_law_292 : decode cL_law 292 = .ok (.iconst 3, 1) := by decide +kernel
theorem dL_law_293 : decode cL_law 293 = .ok (.iadd, 1) := by decide +kernel
theorem dL_law_294 : decode cL_law 294 = .ok (.iaload, 1) := by decide +kernel
theorem dL_law_295 : decode cL_law 295 = .ok (.invokevirtual 38, 3) := by decide +kernel
theorem dL_law_298 : decode cL_law 298 = .ok (.aload_n 2, 1) := by decide +kernel
theorem dL_law_299 : decode cL_law 299 = .ok (.aload_n 0, 1) := by decide +kernel
theorem dL_law_300 : decode cL_law 300 = .ok (.iload_n 3, 1) := by decide +kernel
theorem dL_law_301 : decode cL_law 301 = .ok (.iconst 1, 1) := by decide +kernel
theorem dL_law_302 : decode cL_law 302 = .ok (.iadd, 1) := by decide +kernel
theorem dL_law_303 : decode cL_law 303 = .ok (.iaload, 1) := by decide +kernel
theorem dL_law_304 : decode cL_law 304 = .ok (.aload_n 0, 1) := by decide +kernel
theorem dL_law_305 : decode cL_law 305 = .ok (.iload_n 3, 1) := by decide +kernel
theorem dL_law_306 : decode cL_law 306 = .ok (.iconst 2, 1) := by decide +kernel
theorem dL_law_307 : decode cL_law 307 = .ok (.iadd, 1) := by decide +kernel
theorem dL_law_308 : decode cL_law 308 = .ok (.iaload, 1) := by decide +kernel
theorem dL_law_309 : decode cL_law 309 = .ok (.aload_n 0, 1) := by decide +kernel
theorem dL_law_310 : decode cL_law 310 = .ok (.iload_n 3, 1) := by decide +kernel
theorem dL_law_311 : decode cL_law 311 = .ok (.iconst 3, 1) := by decide +kernel
theorem dL_law_312 : decode cL_law 312 = .ok (.iadd, 1) := by decide +kernel
theorem dL_law_313 : decode cL_law 313 = .ok (.iaload, 1) := by decide +kernel
theorem dL_law_314 : decode cL_law 314 = .ok (.invokevirtual 41, 3) := by decide +kernel
theorem dL_law_317 : decode cL_law 317 = .ok (.goto 162, 3) := by decide +kernel
theorem dL_law_320 : decode cL_law 320 = .ok (.aload_n 1, 1) := by decide +kernel
theorem dL_law_321 : decode cL_law 321 = .ok (.aload_n 0, 1) := by decide +kernel
theorem dL_law_322 : decode cL_law 322 = .ok (.iload_n 3, 1) := by decide +kernel
theorem dL_law_323 : decode cL_law 323 = .ok (.iconst 1, 1) := by decide +kernel
theorem dL_law_324 : decode cL_law 324 = .ok (.iadd, 1) := by decide +kernel
theorem dL_law_325 : decode cL_law 325 = .ok (.iaload, 1) := by decide +kernel
theorem dL_law_326 : decode cL_law 326 = .ok (.aload_n 0, 1) := by decide +kernel
theorem dL_law_327 : decode cL_law 327 = .ok (.iload_n 3, 1) := by decide +kernel
theorem dL_law_328 : decode cL_law 328 = .ok (.iconst 2, 1) := by decide +kernel
theorem dL_law_329 : decode cL_law 329 = .ok (.iadd, 1) := by decide +kernel
theorem dL_law_330 : decode cL_law 330 = .ok (.iaload, 1) := by decide +kernel
theorem dL_law_331 : decode cL_law 331 = .ok (.invokevirtual 42, 3) := by decide +kernel
theorem dL_law_334 : decode cL_law 334 = .ok (.aload_n 2, 1) := by decide +kernel
theorem dL_law_335 : decode cL_law 335 = .ok (.aload_n 0, 1) := by decide +kernel
theorem dL_law_336 : decode cL_law 336 = .ok (.iload_n 3, 1) := by decide +kernel
theorem dL_law_337 : decode cL_law 337 = .ok (.iconst 1, 1) := by decide +kernel
theorem dL_law_338 : decode cL_law 338 = .ok (.iadd, 1) := by decide +kernel
theorem dL_law_339 : decode cL_law 339 = .ok (.iaload, 1) := by decide +kernel
theorem dL_law_340 : decode cL_law 340 = .ok (.aload_n 0, 1) := by decide +kernel
theorem dL_law_341 : decode cL_law 341 = .ok (.iload_n 3, 1) := by decide +kernel
theorem dL_law_342 : decode cL_law 342 = .ok (.iconst 2, 1) := by decide +kernel
theorem dL_law_343 : decode cL_law 343 = .ok (.iadd, 1) := by decide +kernel
theorem dL_law_344 : decode cL_law 344 = .ok (.iaload, 1) := by decide +kernel
theorem dL_law_345 : decode cL_law 345 = .ok (.invokevirtual 45, 3) := by decide +kernel
theorem dL_law_348 : decode cL_law 348 = .ok (.goto 131, 3) := by decide +kernel
theorem dL_law_351 : decode cL_law 351 = .ok (.aload_n 1, 1) := by decide +kernel
theorem dL_law_352 : decode cL_law 352 = .ok (.aload_n 0, 1) := by decide +kernel
theorem dL_law_353 : decode cL_law 353 = .ok (.iload_n 3, 1) := by decide +kernel
theorem dL_law_354 : decode cL_law 354 = .ok (.iconst 1, 1) := by decide +kernel
theorem dL_law_355 : decode cL_law 355 = .ok (.iadd, 1) := by decide +kernel
theorem dL_law_356 : decode cL_law 356 = .ok (.iaload, 1) := by decide +kernel
theorem dL_law_357 : decode cL_law 357 = .ok (.aload_n 0, 1) := by decide +kernel
theorem dL_law_358 : decode cL_law 358 = .ok (.iload_n 3, 1) := by decide +kernel
theorem dL_law_359 : decode cL_law 359 = .ok (.iconst 2, 1) := by decide +kernel
theorem dL_law_360 : decode cL_law 360 = .ok (.iadd, 1) := by decide +kernel
theorem dL_law_361 : decode cL_law 361 = .ok (.iaload, 1) := by decide +kernel
theorem dL_law_362 : decode cL_law 362 = .ok (.aload_n 0, 1) := by decide +kernel
theorem dL_law_363 : decode cL_law 363 = .ok (.iload_n 3, 1) := by decide +kernel
theorem dL_law_364 : decode cL_law 364 = .ok (.iconst 3, 1) := by decide +kernel
theorem dL_law_365 : decode cL_law 365 = .ok (.iadd, 1) := by decide +kernel
theorem dL_law_366 : decode cL_law 366 = .ok (.iaload, 1) := by decide +kernel
theorem dL_law_367 : decode cL_law 367 = .ok (.invokevirtual 46, 3) := by decide +kernel
theorem dL_law_370 : decode cL_law 370 = .ok (.aload_n 2, 1) := by decide +kernel
theorem dL_law_371 : decode cL_law 371 = .ok (.aload_n 0, 1) := by decide +kernel
theorem dL_law_372 : decode cL_law 372 = .ok (.iload_n 3, 1) := by decide +kernel
theorem dL_law_373 : decode cL_law 373 = .ok (.iconst 1, 1) := by decide +kernel
theorem dL_law_374 : decode cL_law 374 = .ok (.iadd, 1) := by decide +kernel
theorem dL_law_375 : decode cL_law 375 = .ok (.iaload, 1) := by decide +kernel
theorem dL_law_376 : decode cL_law 376 = .ok (.aload_n 0, 1) := by decide +kernel
theorem dL_law_377 : decode cL_law 377 = .ok (.iload_n 3, 1) := by decide +kernel
theorem dL_law_378 : decode cL_law 378 = .ok (.iconst 2, 1) := by decide +kernel
theorem dL_law_379 : decode cL_law 379 = .ok (.iadd, 1) := by decide +kernel
theorem dL_law_380 : decode cL_law 380 = .ok (.iaload, 1) := by decide +kernel
theorem dL_law_381 : decode cL_law 381 = .ok (.aload_n 0, 1) := by decide +kernel
theorem dL_law_382 : decode cL_law 382 = .ok (.iload_n 3, 1) := by decide +kernel
theorem dL_law_383 : decode cL_law 383 = .ok (.iconst 3, 1) := by decide +kernel
theorem dL_law_384 : decode cL_law 384 = .ok (.iadd, 1) := by decide +kernel
theorem dL_law_385 : decode cL_law 385 = .ok (.iaload, 1) := by decide +kernel
theorem dL_law_386 : decode cL_law 386 = .ok (.invokevirtual 49, 3) := by decide +kernel
theorem dL_law_389 : decode cL_law 389 = .ok (.goto 90, 3) := by decide +kernel
theorem dL_law_392 : decode cL_law 392 = .ok (.aload_n 1, 1) := by decide +kernel
theorem dL_law_393 : decode cL_law 393 = .ok (.aload_n 0, 1) := by decide +kernel
theorem dL_law_394 : decode cL_law 394 = .ok (.iload_n 3, 1) := by decide +kernel
theorem dL_law_395 : decode cL_law 395 = .ok (.iconst 1, 1) := by decide +kernel
theorem dL_law_396 : decode cL_law 396 = .ok (.iadd, 1) := by decide +kernel
theorem dL_law_397 : decode cL_law 397 = .ok (.iaload, 1) := by decide +kernel
theorem dL_law_398 : decode cL_law 398 = .ok (.aload_n 0, 1) := by decide +kernel
theorem dL_law_399 : decode cL_law 399 = .ok (.iload_n 3, 1) := by decide +kernel
theorem dL_law_400 : decode cL_law 400 = .ok (.iconst 2, 1) := by decide +kernel
theorem dL_law_401 : decode cL_law 401 = .ok (.iadd, 1) := by decide +kernel
theorem dL_law_402 : decode cL_law 402 = .ok (.iaload, 1) := by decide +kernel
theorem dL_law_403 : decode cL_law 403 = .ok (.invokevirtual 50, 3) := by decide +kernel
theorem dL_law_406 : decode cL_law 406 = .ok (.aload_n 2, 1) := by decide +kernel
theorem dL_law_407 : decode cL_law 407 = .ok (.aload_n 0, 1) := by decide +kernel
theorem dL_law_408 : decode cL_law 408 = .ok (.iload_n 3, 1) := by decide +kernel
theorem dL_law_409 : decode cL_law 409 = .ok (.iconst 1, 1) := by decide +kernel
theorem dL_law_410 : decode cL_law 410 = .ok (.iadd, 1) := by decide +kernel
theorem dL_law_411 : decode cL_law 411 = .ok (.iaload, 1) := by decide +kernel
theorem dL_law_412 : decode cL_law 412 = .ok (.aload_n 0, 1) := by decide +kernel
theorem dL_law_413 : decode cL_law 413 = .ok (.iload_n 3, 1) := by decide +kernel
theorem dL_law_414 : decode cL_law 414 = .ok (.iconst 2, 1) := by decide +kernel
theorem dL_law_415 : decode cL_law 415 = .ok (.iadd, 1) := by decide +kernel
theorem dL_law_416 : decode cL_law 416 = .ok (.iaload, 1) := by decide +kernel
theorem dL_law_417 : decode cL_law 417 = .ok (.invokevirtual 53, 3) := by decide +kernel
theorem dL_law_420 : decode cL_law 420 = .ok (.goto 59, 3) := by decide +kernel
theorem dL_law_423 : decode cL_law 423 = .ok (.aload_n 1, 1) := by decide +kernel
theorem dL_law_424 : decode cL_law 424 = .ok (.aload_n 0, 1) := by decide +kernel
theorem dL_law_425 : decode cL_law 425 = .ok (.iload_n 3, 1) := by decide +kernel
theorem dL_law_426 : decode cL_law 426 = .ok (.iconst 1, 1) := by decide +kernel
theorem dL_law_427 : decode cL_law 427 = .ok (.iadd, 1) := by decide +kernel
theorem dL_law_428 : decode cL_law 428 = .ok (.iaload, 1) := by decide +kernel
theorem dL_law_429 : decode cL_law 429 = .ok (.aload_n 0, 1) := by decide +kernel
theorem dL_law_430 : decode cL_law 430 = .ok (.iload_n 3, 1) := by decide +kernel
theorem dL_law_431 : decode cL_law 431 = .ok (.iconst 2, 1) := by decide +kernel
theorem dL_law_432 : decode cL_law 432 = .ok (.iadd, 1) := by decide +kernel
theorem dL_law_433 : decode cL_law 433 = .ok (.iaload, 1) := by decide +kernel
theorem dL_law_434 : decode cL_law 434 = .ok (.invokevirtual 54, 3) := by decide +kernel
theorem dL_law_437 : decode cL_law 437 = .ok (.aload_n 2, 1) := by decide +kernel
theorem dL_law_438 : decode cL_law 438 = .ok (.aload_n 0, 1) := by decide +kernel
theorem dL_law_439 : decode cL_law 439 = .ok (.iload_n 3, 1) := by decide +kernel
theorem dL_law_440 : decode cL_law 440 = .ok (.iconst 1, 1) := by decide +kernel
theorem dL_law_441 : decode cL_law 441 = .ok (.iadd, 1) := by decide +kernel
theorem dL_law_442 : decode cL_law 442 = .ok (.iaload, 1) := by decide +kernel
theorem dL_law_443 : decode cL_law 443 = .ok (.aload_n 0, 1) := by decide +kernel
theorem dL_law_444 : decode cL_law 444 = .ok (.iload_n 3, 1) := by decide +kernel
theorem dL_law_445 : decode cL_law 445 = .ok (.iconst 2, 1) := by decide +kernel
theorem dL_law_446 : decode cL_law 446 = .ok (.iadd, 1) := by decide +kernel
theorem dL_law_447 : decode cL_law 447 = .ok (.iaload, 1) := by decide +kernel
theorem dL_law_448 : decode cL_law 448 = .ok (.invokevirtual 58, 3) := by decide +kernel
theorem dL_law_451 : decode cL_law 451 = .ok (.if_icmp .eq 28, 3) := by decide +kernel
theorem dL_law_454 : decode cL_law 454 = .ok (.iconst 0, 1) := by decide +kernel
theorem dL_law_455 : decode cL_law 455 = .ok (.ireturn, 1) := by decide +kernel
theorem dL_law_456 : decode cL_law 456 = .ok (.aload_n 1, 1) := by decide +kernel
theorem dL_law_457 : decode cL_law 457 = .ok (.aload_n 0, 1) := by decide +kernel
theorem dL_law_458 : decode cL_law 458 = .ok (.iload_n 3, 1) := by decide +kernel
theorem dL_law_459 : decode cL_law 459 = .ok (.iconst 1, 1) := by decide +kernel
theorem dL_law_460 : decode cL_law 460 = .ok (.iadd, 1) := by decide +kernel
theorem dL_law_461 : decode cL_law 461 = .ok (.iaload, 1) := by decide +kernel
theorem dL_law_462 : decode cL_law 462 = .ok (.invokevirtual 59, 3) := by decide +kernel
theorem dL_law_465 : decode cL_law 465 = .ok (.aload_n 2, 1) := by decide +kernel
theorem dL_law_466 : decode cL_law 466 = .ok (.aload_n 0, 1) := by decide +kernel
theorem dL_law_467 : decode cL_law 467 = .ok (.iload_n 3, 1) := by decide +kernel
theorem dL_law_468 : decode cL_law 468 = .ok (.iconst 1, 1) := by decide +kernel
theorem dL_law_469 : decode cL_law 469 = .ok (.iadd, 1) := by decide +kernel
theorem dL_law_470 : decode cL_law 470 = .ok (.iaload, 1) := by decide +kernel
theorem dL_law_471 : decode cL_law 471 = .ok (.invokevirtual 63, 3) := by decide +kernel
theorem dL_law_474 : decode cL_law 474 = .ok (.if_icmp .eq 5, 3) := by decide +kernel
theorem dL_law_477 : decode cL_law 477 = .ok (.iconst 0, 1) := by decide +kernel
theorem dL_law_478 : decode cL_law 478 = .ok (.ireturn, 1) := by decide +kernel
theorem dL_law_479 : decode cL_law 479 = .ok (.iinc 3 6, 3) := by decide +kernel
theorem dL_law_482 : decode cL_law 482 = .ok (.goto (-464), 3) := by decide +kernel
theorem dL_law_485 : decode cL_law 485 = .ok (.iconst 1, 1) := by decide +kernel
theorem dL_law_486 : decode cL_law 486 = .ok (.ireturn, 1) := by decide +kernel
end
section
/-! ROWS OF MY OWN over the kit's: contracts over long arrays of one class, calls that put back what came, reads and writes by a natural index -/
abbrev wk_Cl : List vw_C := [(RX0, TX0, 7), (RX1, TX1, 6)]
abbrev ar_ (q : Nat) (cA : ClassId) (n : Nat) (f : Nat → Int64) : Nat × va_E := (q, .inl (cA, n, .inr (.inl f)))
def Pre_ (D : va_G) (cA : ClassId) (sz : Nat) (ws : va_W) (U : State) : Prop := U.heap.size = sz ∧ va_P D wk_Cl ws U.heap ∧ va_K D wk_Cl [(cA, .long)] U ∧ va_D (fun _ => True) ws
def Bk_ (D : va_G) (cA : ClassId) (A : Nat → Prop) (ws : va_W) (t : State) : Prop := va_P D wk_Cl ws t.heap ∧ va_K D wk_Cl [(cA, .long)] t ∧ va_D A ws
abbrev QV_ {S : Type} (D : va_G) (cA : ClassId) (A : Nat → Prop) (post : S → Prop) (w1 : S → va_W) := va_Qv post (fun u t => Bk_ D cA A (w1 u) t) A
abbrev QI_ {S : Type} (D : va_G) (cA : ClassId) (A : Nat → Prop) (post : Int32 → S → Prop) (w1 : S → va_W) := va_Qi post (fun u t => Bk_ D cA A (w1 u) t) A
abbrev QL_ {S : Type} (D : va_G) (cA : ClassId) (A : Nat → Prop) (post : Int64 → S → Prop) (w1 : S → va_W) := va_Ql post (fun u t => Bk_ D cA A (w1 u) t) A
/-- contracts: a void method, one that answers an int (or boolean), one that answers a long -/
def MetV_ {S : Type} (l : Launch) (y : MethodName) (c : ByteArray) (nL : Nat) (rm : Room) (D : va_G) (cA : ClassId) (av : List Value) (ws : va_W) (post : S → Prop) (w1 : S → va_W) : Prop :=
  ∀ sz, Met l y (ws_ y c nL none) rm (va_Pc av (Pre_ D cA sz ws)) (QV_ D cA (va_A ws sz) post w1) 0 0 (va_A ws sz)
def MetI_ {S : Type} (l : Launch) (y : MethodName) (c : ByteArray) (nL : Nat) (rt : FieldType) (rm : Room) (D : va_G) (cA : ClassId) (av : List Value) (ws : va_W) (post : Int32 → S → Prop) (w1 : S → va_W) : Prop :=
  ∀ sz, Met l y (ws_ y c nL (some rt)) rm (va_Pc av (Pre_ D cA sz ws)) (QI_ D cA (va_A ws sz) post w1) 0 0 (va_A ws sz)
def MetL_ {S : Type} (l : Launch) (y : MethodName) (c : ByteArray) (nL : Nat) (rm : Room) (D : va_G) (cA : ClassId) (av : List Value) (ws : va_W) (post : Int64 → S → Prop) (w1 : S → va_W) : Prop :=
  ∀ sz, Met l y (ws_ y c nL (some .long)) rm (va_Pc av (Pre_ D cA sz ws)) (QL_ D cA (va_A ws sz) post w1) 0 0 (va_A ws sz)
section WK
variable {l : Launch} {y : MethodName} {cc : ByteArray} {nL : Nat} {rm : Room} {D : va_G} {cA : ClassId} {av : List Value} {ws : va_W} {S : Type} {w1 : S → va_W}
/-- a void method: from its entry to any of its returns -/
theorem metV_of {post : S → Prop} (hy : plainName y.cls = true) (hn : (lg_sl av).length ≤ nL)
    (body : ∀ (p : Program) (e : Env) (s : State) (m : MethodId) (below : List Frame) (meth : Method) (c : Code) (A : Nat → Prop) (Q : State → Prop), p.tables.exec = Jvm.exec → c.code = cc → c.maxLocals = nL → s.vm.findClass y.cls = some m.cls → (∀ w ∈ lw_all, w.before av.toArray s = true) → va_K D wk_Cl [(cA, .long)] s → (∀ q : Nat, s.heap.size ≤ q → A q) →
      (∀ (u : S) (H : Heap) (locs : List Loc) (ls : Array Slot) (pc : Nat), decode cc pc = .ok (.return_, 1) → post u → va_P D wk_Cl (w1 u) H → va_D A (w1 u) → va_S A s.heap H locs → W p l e rm s m av.toArray below meth c H locs 0 0 Q (F0 m pc ls [])) →
      ∀ ls : Array Slot, va_P D wk_Cl ws s.heap → va_D A ws → lv_has ls nL (lv_args 0 av) → W p l e rm s m av.toArray below meth c s.heap [] 0 0 Q (F0 m 0 ls [])) : MetV_ l y cc nL rm D cA av ws post w1 := by
  intro sz
  refine Met.ofW (cc := cc) (maxL := nL) (ret := none) hy rfl ?_
  intro p e s m args below meth c s₁ B hml hv
  obtain ⟨rfl, hsz, hP, hK, hD0⟩ := hv
  have hts := atoms_spec (ws := ws_ y cc nL none) B.pre
  have hts : ∀ w ∈ lw_all, w.before _ s = true := fun w h => hts w (List.mem_cons_of_mem _ h)
  subst hsz
  have hD := hD0.self (sz := s.heap.size)
  have hr := B.returns
  have hlocks := B.notSynchronized
  rw [lg_entry_eq]
  refine body p e s m below meth c (va_A ws s.heap.size) _ B.exec B.bytes hml (findClass_of_methodNamed B.named) hts hK (fun q h => Or.inr h) (fun u H locs ls pc hd hu hP' hD' hS => ?_) _ hP hD (lv_entry av hn)
  exact W.vret B.exec B.bytes hr (fun t ht hW => ⟨⟨u, rfl, hu, by rw [ht]; exact hP', va_K.moved hW.alike hK, hD'⟩, hS.F ht⟩) hS.2.2 hd
theorem metI_of {rt : FieldType} {post : Int32 → S → Prop} (hy : plainName y.cls = true) (hn : (lg_sl av).length ≤ nL)
    (body : ∀ (p : Program) (e : Env) (s : State) (m : MethodId) (below : List Frame) (meth : Method) (c : Code) (A : Nat → Prop) (Q : State → Prop), p.tables.exec = Jvm.exec → c.code = cc → c.maxLocals = nL → s.vm.findClass y.cls = some m.cls → (∀ w ∈ lw_all, w.before av.toArray s = true) → va_K D wk_Cl [(cA, .long)] s → (∀ q : Nat, s.heap.size ≤ q → A q) →
      (∀ (r : Int32) (u : S) (H : Heap) (locs : List Loc) (ls : Array Slot) (pc : Nat), decode cc pc = .ok (.ireturn, 1) → narrow rt (.int r) = .int r → post r u → va_P D wk_Cl (w1 u) H → va_D A (w1 u) → va_S A s.heap H locs → W p l e rm s m av.toArray below meth c H locs 0 0 Q (F0 m pc ls [.int r])) →
      ∀ ls : Array Slot, va_P D wk_Cl ws s.heap → va_D A ws → lv_has ls nL (lv_args 0 av) → W p l e rm s m av.toArray below meth c s.heap [] 0 0 Q (F0 m 0 ls [])) : MetI_ l y cc nL rt rm D cA av ws post w1 := by
  intro sz
  refine Met.ofW (cc := cc) (maxL := nL) (ret := some rt) hy rfl ?_
  intro p e s m args below meth c s₁ B hml hv
  obtain ⟨rfl, hsz, hP, hK, hD0⟩ := hv
  have hts := atoms_spec (ws := ws_ y cc nL (some rt)) B.pre
  have hts : ∀ w ∈ lw_all, w.before _ s = true := fun w h => hts w (List.mem_cons_of_mem _ h)
  subst hsz
  have hD := hD0.self (sz := s.heap.size)
  have hr := B.returns
  have hlocks := B.notSynchronized
  rw [lg_entry_eq]
  refine body p e s m below meth c (va_A ws s.heap.size) _ B.exec B.bytes hml (findClass_of_methodNamed B.named) hts hK (fun q h => Or.inr h) (fun r u H locs ls pc hd hnr hu hP' hD' hS => ?_) _ hP hD (lv_entry av hn)
  exact W.zret B.exec B.bytes hr hnr (fun t ht hW => ⟨⟨r, u, rfl, hu, by rw [ht]; exact hP', va_K.moved hW.alike hK, hD'⟩, hS.F ht⟩) hS.2.2 hd
theorem metL_of {post : Int64 → S → Prop} (hy : plainName y.cls = true) (hn : (lg_sl av).length ≤ nL)
    (body : ∀ (p : Program) (e : Env) (s : State) (m : MethodId) (below : List Frame) (meth : Method) (c : Code) (A : Nat → Prop) (Q : State → Prop), p.tables.exec = Jvm.exec → c.code = cc → c.maxLocals = nL → s.vm.findClass y.cls = some m.cls → (∀ w ∈ lw_all, w.before av.toArray s = true) → va_K D wk_Cl [(cA, .long)] s → (∀ q : Nat, s.heap.size ≤ q → A q) →
      (∀ (r : Int64) (u : S) (H : Heap) (locs : List Loc) (ls : Array Slot) (pc : Nat), decode cc pc = .ok (.lreturn, 1) → post r u → va_P D wk_Cl (w1 u) H → va_D A (w1 u) → va_S A s.heap H locs → W p l e rm s m av.toArray below meth c H locs 0 0 Q (F0 m pc ls [.long r])) →
      ∀ ls : Array Slot, va_P D wk_Cl ws s.heap → va_D A ws → lv_has ls nL (lv_args 0 av) → W p l e rm s m av.toArray below meth c s.heap [] 0 0 Q (F0 m 0 ls [])) : MetL_ l y cc nL rm D cA av ws post w1 := by
  intro sz
  refine Met.ofW (cc := cc) (maxL := nL) (ret := some .long) hy rfl ?_
  intro p e s m args below meth c s₁ B hml hv
  obtain ⟨rfl, hsz, hP, hK, hD0⟩ := hv
  have hts := atoms_spec (ws := ws_ y cc nL (some .long)) B.pre
  have hts : ∀ w ∈ lw_all, w.before _ s = true := fun w h => hts w (List.mem_cons_of_mem _ h)
  subst hsz
  have hD := hD0.self (sz := s.heap.size)
  have hr := B.returns
  have hlocks := B.notSynchronized
  rw [lg_entry_eq]
  refine body p e s m below meth c (va_A ws s.heap.size) _ B.exec B.bytes hml (findClass_of_methodNamed B.named) hts hK (fun q h => Or.inr h) (fun r u H locs ls pc hd hu hP' hD' hS => ?_) _ hP hD (lv_entry av hn)
  exact W.lret B.exec B.bytes hr (fun t ht hW => ⟨⟨r, u, rfl, hu, by rw [ht]; exact hP', va_K.moved hW.alike hK, hD'⟩, hS.F ht⟩) hS.2.2 hd
end WK
theorem wk_fm {α β : Type} {f : α → Option β} {js : List α} {l : List β} (h : js.map f = l.map some) : js.filterMap f = l := by
  have e := congrArg (List.filterMap id) h
  simpa [List.filterMap_map] using e
theorem wk_blind {D : va_G} {cA : ClassId} {sz : Nat} {ws : va_W} {av : List Value} : FrameBlind (va_Pc av (Pre_ D cA sz ws)) := fun a U g mk q => by
  obtain ⟨q0, q1, qP, qK, qD⟩ := q
  exact ⟨q0, q1, qP, va_K.moved (u := U) (U := U.calling g mk a) (Vm.Alike.refl U.vm) qK, qD⟩
section WC
variable {p : Program} {l : Launch} {e : Env} {R : Room} {s : State} {m : MethodId} {args : Array Value} {below : List Frame} {meth : Method} {c : Code} {H : Heap} {locs : List Loc} {cells slots : Nat} {Q : State → Prop}
variable {pc : Nat} {ls : Array Slot} {rest st0 : List Value} {A : Nat → Prop} {H0 : Heap} {D : va_G} {cA : ClassId} {ws wc wr : va_W} {S : Type} {w1 w2 : S → va_W}
variable {y : MethodName} {bytes cc : ByteArray} {maxL nL n index ci : Nat} {rm : Room} {own C : String} {b : Addr} {As : List Value} {fs : List Value} {T : u_T} {N : Nat}
/-- what a call's world asks: its cells cut out of mine -/
theorem wk_pre (hK : va_K D wk_Cl [(cA, .long)] s) (hP : va_P D wk_Cl ws H) (hD : va_D A ws) (isC : List Nat) (hn : va_nd isC = true) (hC : isC.map (fun i => ws[i]?) = wc.map some) {av : List Value} (U : State) (hU : U.heap = H) (hW : s.WarmedH U.vm) : va_Pc av (Pre_ D cA H.size wc) av.toArray U :=
  ⟨rfl, by rw [hU], by rw [hU]; exact hP.sub isC (wk_fm hC), va_K.moved hW.alike hK, (hD.sub isC hn hC).weaken (fun _ _ _ _ => trivial)⟩
theorem cj_v {post : S → Prop} {a : Array Value} (hr : va_Run p l e R s m args below meth c H locs cells slots 0 0 (F0 m pc ls st0) rest (QV_ D cA (va_A wc H.size) post w1 a) (va_A wc H.size))
    (hP : va_P D wk_Cl ws H) (hD : va_D A ws) (hS : va_S A H0 H locs) (hA : ∀ q, H0.size ≤ q → A q) (isC isR : List Nat) (hC : isC.map (fun i => ws[i]?) = wc.map some) (hR : isR.map (fun i => ws[i]?) = wr.map some) (hn : va_nd isR = true) (hdis : ∀ i ∈ isR, i ∉ isC)
    (js : List Nat) (hj : va_nd js = true) (hj2 : ∀ u, js.map (fun i => (wr ++ w1 u)[i]?) = (w2 u).map some)
    (kk : ∀ (u : S) (H1 : Heap) (locs1 : List Loc), post u → va_P D wk_Cl (w2 u) H1 → va_D A (w2 u) → va_S A H0 H1 locs1 → W p l e R s m args below meth c H1 locs1 cells slots Q (F0 m (pc + 3) ls rest)) : W p l e R s m args below meth c H locs cells slots Q (F0 m pc ls st0) := by
  have hFc := va_free (wc := wc) hD hS hA isC hC
  refine va_callv hr hS (fun q _ h => hFc q h) hFc (fun u t H1 locs1 ht hvm hw hB hz1 hk1 hS1 => ?_)
  obtain ⟨hP1, hK1, hD1⟩ := hB
  rw [ht] at hP1
  obtain ⟨hP2, hD2⟩ := va_join hP hD isC isR hC hR hn hdis hk1 hFc hP1 hD1
  exact kk u H1 locs1 hw (hP2.sub js (wk_fm (hj2 u))) (hD2.sub js hj (hj2 u)) hS1
theorem cj_i {post : Int32 → S → Prop} {a : Array Value} (hr : va_Run p l e R s m args below meth c H locs cells slots 0 0 (F0 m pc ls st0) rest (QI_ D cA (va_A wc H.size) post w1 a) (va_A wc H.size))
    (hP : va_P D wk_Cl ws H) (hD : va_D A ws) (hS : va_S A H0 H locs) (hA : ∀ q, H0.size ≤ q → A q) (isC isR : List Nat) (hC : isC.map (fun i => ws[i]?) = wc.map some) (hR : isR.map (fun i => ws[i]?) = wr.map some) (hn : va_nd isR = true) (hdis : ∀ i ∈ isR, i ∉ isC)
    (js : List Nat) (hj : va_nd js = true) (hj2 : ∀ u, js.map (fun i => (wr ++ w1 u)[i]?) = (w2 u).map some)
    (kk : ∀ (r : Int32) (u : S) (H1 : Heap) (locs1 : List Loc), post r u → va_P D wk_Cl (w2 u) H1 → va_D A (w2 u) → va_S A H0 H1 locs1 → W p l e R s m args below meth c H1 locs1 cells slots Q (F0 m (pc + 3) ls (.int r :: rest))) : W p l e R s m args below meth c H locs cells slots Q (F0 m pc ls st0) := by
  have hFc := va_free (wc := wc) hD hS hA isC hC
  refine va_calli hr hS (fun q _ h => hFc q h) hFc (fun r u t H1 locs1 ht hvm hw hB hz1 hk1 hS1 => ?_)
  obtain ⟨hP1, hK1, hD1⟩ := hB
  rw [ht] at hP1
  obtain ⟨hP2, hD2⟩ := va_join hP hD isC isR hC hR hn hdis hk1 hFc hP1 hD1
  exact kk r u H1 locs1 hw (hP2.sub js (wk_fm (hj2 u))) (hD2.sub js hj (hj2 u)) hS1
/-- an instance call, void -/
theorem cv_V {post : S → Prop} (hx : p.tables.exec = Jvm.exec) (hb : c.code = cc) (hml : c.maxLocals = nL) (hown : s.vm.findClass own = some m.cls) (hts : ∀ w ∈ lw_all, w.before args s = true) (hK : va_K D wk_Cl [(cA, .long)] s)
    (hM : MetV_ l y bytes maxL rm D cA (.ref b :: As) wc post w1) (hG : GoodIn lw_all (wsV own index C y (ws_ y bytes maxL none))) (hd : y.cls = C ∧ y.cls ≠ "java/lang/invoke/MethodHandle" ∧ y.cls ≠ "java/lang/invoke/VarHandle" ∧ (parseMethodDescriptor y.desc).map (fun d => d.parameters.length) = some n) (hlen : As.length = n)
    (hr0 : rm.cells = 0 ∧ rm.slots = 0) (hR1 : rm.frames + 1 ≤ R.frames ∧ 8 + (maxL + 11) + rm.locals ≤ R.locals) (hcs : cells ≤ R.cells ∧ slots ≤ R.slots)
    (hP : va_P D wk_Cl ws H) (hD : va_D A ws) (hS : va_S A H0 H locs) (hA : ∀ q, H0.size ≤ q → A q) (isC isR js : List Nat) (hcl : wk_Cl[ci]? = some (C, T, N)) (h0 : wc[0]? = some (b, .inr (ci, fs)))
    (hC : isC.map (fun i => ws[i]?) = wc.map some) (hR : isR.map (fun i => ws[i]?) = wr.map some) (hnc : va_nd isC = true) (hn : va_nd isR = true) (hdis : ∀ i ∈ isR, i ∉ isC) (hj : va_nd js = true) (hj2 : ∀ u, js.map (fun i => (wr ++ w1 u)[i]?) = (w2 u).map some)
    (hsize : ls.size = nL) (hstack : st0 = As.reverse ++ .ref b :: rest) (hst : (rest.map fun v => v.category).sum ≤ 8) (hdg : decode cc pc = .ok (.invokevirtual index, 3))
    (kk : ∀ (u : S) (H1 : Heap) (locs1 : List Loc), post u → va_P D wk_Cl (w2 u) H1 → va_D A (w2 u) → va_S A H0 H1 locs1 → W p l e R s m args below meth c H1 locs1 cells slots Q (F0 m (pc + 3) ls rest)) : W p l e R s m args below meth c H locs cells slots Q (F0 m pc ls st0) :=
  cj_v (va_runV (g := F0 m pc ls st0) ⟨hx, hb, hml, hown, hts⟩ (hM H.size) (cwV n hts hG rfl hr0.1 hr0.2 hd hR1) ⟨wk_blind, va_recv hK (hP.sub isC (wk_fm hC)) hcl h0, wk_pre hK hP hD isC hnc hC⟩ rfl hlen hsize hstack (lv_room hst) hdg hcs) hP hD hS hA isC isR hC hR hn hdis js hj hj2 kk
/-- an instance call that answers an int -/
theorem cv_I {rt : FieldType} {post : Int32 → S → Prop} (hx : p.tables.exec = Jvm.exec) (hb : c.code = cc) (hml : c.maxLocals = nL) (hown : s.vm.findClass own = some m.cls) (hts : ∀ w ∈ lw_all, w.before args s = true) (hK : va_K D wk_Cl [(cA, .long)] s)
    (hM : MetI_ l y bytes maxL rt rm D cA (.ref b :: As) wc post w1) (hG : GoodIn lw_all (wsV own index C y (ws_ y bytes maxL (some rt)))) (hd : y.cls = C ∧ y.cls ≠ "java/lang/invoke/MethodHandle" ∧ y.cls ≠ "java/lang/invoke/VarHandle" ∧ (parseMethodDescriptor y.desc).map (fun d => d.parameters.length) = some n) (hlen : As.length = n)
    (hr0 : rm.cells = 0 ∧ rm.slots = 0) (hR1 : rm.frames + 1 ≤ R.frames ∧ 8 + (maxL + 11) + rm.locals ≤ R.locals) (hcs : cells ≤ R.cells ∧ slots ≤ R.slots)
    (hP : va_P D wk_Cl ws H) (hD : va_D A ws) (hS : va_S A H0 H locs) (hA : ∀ q, H0.size ≤ q → A q) (isC isR js : List Nat) (hcl : wk_Cl[ci]? = some (C, T, N)) (h0 : wc[0]? = some (b, .inr (ci, fs)))
    (hC : isC.map (fun i => ws[i]?) = wc.map some) (hR : isR.map (fun i => ws[i]?) = wr.map some) (hnc : va_nd isC = true) (hn : va_nd isR = true) (hdis : ∀ i ∈ isR, i ∉ isC) (hj : va_nd js = true) (hj2 : ∀ u, js.map (fun i => (wr ++ w1 u)[i]?) = (w2 u).map some)
    (hsize : ls.size = nL) (hstack : st0 = As.reverse ++ .ref b :: rest) (hst : (rest.map fun v => v.category).sum ≤ 8) (hdg : decode cc pc = .ok (.invokevirtual index, 3))
    (kk : ∀ (r : Int32) (u : S) (H1 : Heap) (locs1 : List Loc), post r u → va_P D wk_Cl (w2 u) H1 → va_D A (w2 u) → va_S A H0 H1 locs1 → W p l e R s m args below meth c H1 locs1 cells slots Q (F0 m (pc + 3) ls (.int r :: rest))) : W p l e R s m args below meth c H locs cells slots Q (F0 m pc ls st0) :=
  cj_i (va_runV (g := F0 m pc ls st0) ⟨hx, hb, hml, hown, hts⟩ (hM H.size) (cwV n hts hG rfl hr0.1 hr0.2 hd hR1) ⟨wk_blind, va_recv hK (hP.sub isC (wk_fm hC)) hcl h0, wk_pre hK hP hD isC hnc hC⟩ rfl hlen hsize hstack (lv_room hst) hdg hcs) hP hD hS hA isC isR hC hR hn hdis js hj hj2 kk
/-- a static call on cells, void -/
theorem cv_S {post : S → Prop} (hx : p.tables.exec = Jvm.exec) (hb : c.code = cc) (hml : c.maxLocals = nL) (hown : s.vm.findClass own = some m.cls) (hts : ∀ w ∈ lw_all, w.before args s = true) (hK : va_K D wk_Cl [(cA, .long)] s)
    (hM : MetV_ l y bytes maxL rm D cA As wc post w1) (hG : GoodIn lw_all (va_wsS own index y (ws_ y bytes maxL none))) (hd : y.cls ≠ "java/lang/invoke/MethodHandle" ∧ y.cls ≠ "java/lang/invoke/VarHandle" ∧ (parseMethodDescriptor y.desc).map (fun d => d.parameters.length) = some n) (hlen : As.length = n)
    (hr0 : rm.cells = 0 ∧ rm.slots = 0) (hR1 : rm.frames + 1 ≤ R.frames ∧ 8 + (maxL + 11) + rm.locals ≤ R.locals) (hcs : cells ≤ R.cells ∧ slots ≤ R.slots)
    (hP : va_P D wk_Cl ws H) (hD : va_D A ws) (hS : va_S A H0 H locs) (hA : ∀ q, H0.size ≤ q → A q) (isC isR js : List Nat)
    (hC : isC.map (fun i => ws[i]?) = wc.map some) (hR : isR.map (fun i => ws[i]?) = wr.map some) (hnc : va_nd isC = true) (hn : va_nd isR = true) (hdis : ∀ i ∈ isR, i ∉ isC) (hj : va_nd js = true) (hj2 : ∀ u, js.map (fun i => (wr ++ w1 u)[i]?) = (w2 u).map some)
    (hsize : ls.size = nL) (hstack : st0 = As.reverse ++ rest) (hst : (rest.map fun v => v.category).sum ≤ 8) (hdg : decode cc pc = .ok (.invokestatic index, 3))
    (kk : ∀ (u : S) (H1 : Heap) (locs1 : List Loc), post u → va_P D wk_Cl (w2 u) H1 → va_D A (w2 u) → va_S A H0 H1 locs1 → W p l e R s m args below meth c H1 locs1 cells slots Q (F0 m (pc + 3) ls rest)) : W p l e R s m args below meth c H locs cells slots Q (F0 m pc ls st0) :=
  cj_v (va_runS (g := F0 m pc ls st0) ⟨hx, hb, hml, hown, hts⟩ (hM H.size) (va_cwS n hts hG rfl hr0.1 hr0.2 hd hR1) ⟨wk_blind, wk_pre hK hP hD isC hnc hC⟩ rfl hlen hsize hstack (lv_room hst) hdg hcs) hP hD hS hA isC isR hC hR hn hdis js hj hj2 kk
/-- a static call on cells that answers an int -/
theorem cv_SI {rt : FieldType} {post : Int32 → S → Prop} (hx : p.tables.exec = Jvm.exec) (hb : c.code = cc) (hml : c.maxLocals = nL) (hown : s.vm.findClass own = some m.cls) (hts : ∀ w ∈ lw_all, w.before args s = true) (hK : va_K D wk_Cl [(cA, .long)] s)
    (hM : MetI_ l y bytes maxL rt rm D cA As wc post w1) (hG : GoodIn lw_all (va_wsS own index y (ws_ y bytes maxL (some rt)))) (hd : y.cls ≠ "java/lang/invoke/MethodHandle" ∧ y.cls ≠ "java/lang/invoke/VarHandle" ∧ (parseMethodDescriptor y.desc).map (fun d => d.parameters.length) = some n) (hlen : As.length = n)
    (hr0 : rm.cells = 0 ∧ rm.slots = 0) (hR1 : rm.frames + 1 ≤ R.frames ∧ 8 + (maxL + 11) + rm.locals ≤ R.locals) (hcs : cells ≤ R.cells ∧ slots ≤ R.slots)
    (hP : va_P D wk_Cl ws H) (hD : va_D A ws) (hS : va_S A H0 H locs) (hA : ∀ q, H0.size ≤ q → A q) (isC isR js : List Nat)
    (hC : isC.map (fun i => ws[i]?) = wc.map some) (hR : isR.map (fun i => ws[i]?) = wr.map some) (hnc : va_nd isC = true) (hn : va_nd isR = true) (hdis : ∀ i ∈ isR, i ∉ isC) (hj : va_nd js = true) (hj2 : ∀ u, js.map (fun i => (wr ++ w1 u)[i]?) = (w2 u).map some)
    (hsize : ls.size = nL) (hstack : st0 = As.reverse ++ rest) (hst : (rest.map fun v => v.category).sum ≤ 8) (hdg : decode cc pc = .ok (.invokestatic index, 3))
    (kk : ∀ (r : Int32) (u : S) (H1 : Heap) (locs1 : List Loc), post r u → va_P D wk_Cl (w2 u) H1 → va_D A (w2 u) → va_S A H0 H1 locs1 → W p l e R s m args below meth c H1 locs1 cells slots Q (F0 m (pc + 3) ls (.int r :: rest))) : W p l e R s m args below meth c H locs cells slots Q (F0 m pc ls st0) :=
  cj_i (va_runS (g := F0 m pc ls st0) ⟨hx, hb, hml, hown, hts⟩ (hM H.size) (va_cwS n hts hG rfl hr0.1 hr0.2 hd hR1) ⟨wk_blind, wk_pre hK hP hD isC hnc hC⟩ rfl hlen hsize hstack (lv_room hst) hdg hcs) hP hD hS hA isC isR hC hR hn hdis js hj hj2 kk
theorem wk_none {q : Nat} {sz : Nat} (h : q < sz) : ¬ va_A [] sz q := by
  rintro (⟨k, e, h1⟩ | h1)
  · simp at h1
  · omega
/-- a static call that touches no cell and answers the int v -/
theorem cs_i {v : Int32} (hx : p.tables.exec = Jvm.exec) (hb : c.code = cc) (hml : c.maxLocals = nL) (hown : s.vm.findClass own = some m.cls) (hts : ∀ w ∈ lw_all, w.before args s = true) (hK : va_K D wk_Cl [(cA, .long)] s)
    (hM : MetI_ l y bytes maxL .int rm D cA As [] (fun r (_ : Unit) => r = v) (fun _ => [])) (hG : GoodIn lw_all (va_wsS own index y (ws_ y bytes maxL (some .int)))) (hd : y.cls ≠ "java/lang/invoke/MethodHandle" ∧ y.cls ≠ "java/lang/invoke/VarHandle" ∧ (parseMethodDescriptor y.desc).map (fun d => d.parameters.length) = some n) (hlen : As.length = n)
    (hr0 : rm.cells = 0 ∧ rm.slots = 0) (hR1 : rm.frames + 1 ≤ R.frames ∧ 8 + (maxL + 11) + rm.locals ≤ R.locals) (hcs : cells ≤ R.cells ∧ slots ≤ R.slots)
    (hP : va_P D wk_Cl ws H) (hD : va_D A ws) (hS : va_S A H0 H locs) (hA : ∀ q, H0.size ≤ q → A q)
    (hsize : ls.size = nL) (hstack : st0 = As.reverse ++ rest) (hst : (rest.map fun v => v.category).sum ≤ 8) (hdg : decode cc pc = .ok (.invokestatic index, 3))
    (kk : ∀ (H1 : Heap) (locs1 : List Loc), va_P D wk_Cl ws H1 → va_S A H0 H1 locs1 → W p l e R s m args below meth c H1 locs1 cells slots Q (F0 m (pc + 3) ls (.int v :: rest))) : W p l e R s m args below meth c H locs cells slots Q (F0 m pc ls st0) := by
  have hFc := va_free (wc := []) hD hS hA [] rfl
  have hr := va_runS (g := F0 m pc ls st0) (locs := locs) (l := l) (e := e) (below := below) (meth := meth) (cells := cells) (slots := slots) ⟨hx, hb, hml, hown, hts⟩ (hM H.size) (va_cwS n hts hG rfl hr0.1 hr0.2 hd hR1) ⟨wk_blind, wk_pre hK hP hD [] rfl rfl⟩ rfl hlen hsize hstack (lv_room hst) hdg hcs
  refine va_calli hr hS (fun q _ h => hFc q h) hFc (fun r u t H1 locs1 ht hvm hw hB hz1 hk1 hS1 => ?_)
  have hw : r = v := hw
  subst hw
  exact kk H1 locs1 (hP.kept (fun k q hq => hk1 q.1 ((hP k q hq).lt) (wk_none ((hP k q hq).lt)))) hS1
/-- a static call that touches no cell and answers the long v -/
theorem cs_l {v : Int64} (hx : p.tables.exec = Jvm.exec) (hb : c.code = cc) (hml : c.maxLocals = nL) (hown : s.vm.findClass own = some m.cls) (hts : ∀ w ∈ lw_all, w.before args s = true) (hK : va_K D wk_Cl [(cA, .long)] s)
    (hM : MetL_ l y bytes maxL rm D cA As [] (fun r (_ : Unit) => r = v) (fun _ => [])) (hG : GoodIn lw_all (va_wsS own index y (ws_ y bytes maxL (some .long)))) (hd : y.cls ≠ "java/lang/invoke/MethodHandle" ∧ y.cls ≠ "java/lang/invoke/VarHandle" ∧ (parseMethodDescriptor y.desc).map (fun d => d.parameters.length) = some n) (hlen : As.length = n)
    (hr0 : rm.cells = 0 ∧ rm.slots = 0) (hR1 : rm.frames + 1 ≤ R.frames ∧ 8 + (maxL + 11) + rm.locals ≤ R.locals) (hcs : cells ≤ R.cells ∧ slots ≤ R.slots)
    (hP : va_P D wk_Cl ws H) (hD : va_D A ws) (hS : va_S A H0 H locs) (hA : ∀ q, H0.size ≤ q → A q)
    (hsize : ls.size = nL) (hstack : st0 = As.reverse ++ rest) (hst : (rest.map fun v => v.category).sum ≤ 8) (hdg : decode cc pc = .ok (.invokestatic index, 3))
    (kk : ∀ (H1 : Heap) (locs1 : List Loc), va_P D wk_Cl ws H1 → va_S A H0 H1 locs1 → W p l e R s m args below meth c H1 locs1 cells slots Q (F0 m (pc + 3) ls (.long v :: rest))) : W p l e R s m args below meth c H locs cells slots Q (F0 m pc ls st0) := by
  have hFc := va_free (wc := []) hD hS hA [] rfl
  have hr := va_runS (g := F0 m pc ls st0) (locs := locs) (l := l) (e := e) (below := below) (meth := meth) (cells := cells) (slots := slots) ⟨hx, hb, hml, hown, hts⟩ (hM H.size) (va_cwS n hts hG rfl hr0.1 hr0.2 hd hR1) ⟨wk_blind, wk_pre hK hP hD [] rfl rfl⟩ rfl hlen hsize hstack (lv_room hst) hdg hcs
  refine va_calll hr hS (fun q _ h => hFc q h) hFc (fun r u t H1 locs1 ht hvm hw hB hz1 hk1 hS1 => ?_)
  have hw : r = v := hw
  subst hw
  exact kk H1 locs1 (hP.kept (fun k q hq => hk1 q.1 ((hP k q hq).lt) (wk_none ((hP k q hq).lt)))) hS1
end WC
section WR
variable {p : Program} {l : Launch} {e : Env} {R : Room} {s : State} {m : MethodId} {args : Array Value} {below : List Frame} {meth : Method} {c : Code} {H : Heap} {locs : List Loc} {cells slots : Nat} {Q : State → Prop}
variable {cc : ByteArray} {pc : Nat} {ls : Array Slot} {rest : List Value} {D : va_G} {A : Nat → Prop} {a : Nat} {cA : ClassId} {ws ws' : va_W} {H0 : Heap}
/-- laload at a natural index -/
theorem la_ (hx : p.tables.exec = Jvm.exec) (hb : c.code = cc) (hK : va_K D wk_Cl [(cA, .long)] s) (hP : va_P D wk_Cl ws H) (q0 : Nat) {n : Nat} {f : Nat → Int64} (ha : ws[q0]? = some (ar_ a cA n f)) {i : Int32} (E : Nat) (hi : i = nI E) (hE : E < n) (hn : n < 2 ^ 31) {v : Int64} (hv : f E = v) (hdg : decode cc pc = .ok (.laload, 1))
    (kk : W p l e R s m args below meth c H locs cells slots Q (F0 m (pc + 1) ls (.long v :: rest))) : W p l e R s m args below meth c H locs cells slots Q (F0 m pc ls (.int i :: .ref a :: rest)) := by
  subst hi
  refine va_lald hx hb hK hP q0 0 ha rfl (vp_in_nI hE hn) hdg ?_
  rw [nI_clamp (Nat.lt_trans hE hn), hv]
  exact kk
/-- lastore at a natural index: the new contents get a name -/
theorem st_ (hx : p.tables.exec = Jvm.exec) (hb : c.code = cc) (hK : va_K D wk_Cl [(cA, .long)] s) (hP : va_P D wk_Cl ws H) (hD : va_D A ws) (hS : va_S A H0 H locs) (q0 : Nat) {n : Nat} {f : Nat → Int64} (ha : ws[q0]? = some (ar_ a cA n f)) {i : Int32} {x : Int64} (E : Nat) (hi : i = nI E) (hE : E < n) (hn : n < 2 ^ 31) (hdg : decode cc pc = .ok (.lastore, 1))
    (kk : ∀ (g : Nat → Int64) (H1 : Heap) (locs1 : List Loc), g = vp_updL f E x → va_P D wk_Cl (ws.set q0 (ar_ a cA n g)) H1 → va_D A (ws.set q0 (ar_ a cA n g)) → va_S A H0 H1 locs1 → W p l e R s m args below meth c H1 locs1 cells slots Q (F0 m (pc + 1) ls rest)) : W p l e R s m args below meth c H locs cells slots Q (F0 m pc ls (.long x :: .int i :: .ref a :: rest)) := by
  subst hi
  refine va_last hx hb hK hP hD hS q0 0 ha rfl (vp_in_nI hE hn) hdg (fun H1 locs1 hP1 hD1 hS1 => ?_)
  rw [nI_clamp (Nat.lt_trans hE hn)] at hP1 hD1
  exact kk _ H1 locs1 rfl hP1 hD1 hS1
/-- the top of the stack under another name -/
theorem ti_ {x : Int32} (y : Int32) (h : x = y) (k : W p l e R s m args below meth c H locs cells slots Q (F0 m pc ls (.int y :: rest))) : W p l e R s m args below meth c H locs cells slots Q (F0 m pc ls (.int x :: rest)) := h ▸ k
theorem tl_ {x : Int64} (y : Int64) (h : x = y) (k : W p l e R s m args below meth c H locs cells slots Q (F0 m pc ls (.long y :: rest))) : W p l e R s m args below meth c H locs cells slots Q (F0 m pc ls (.long x :: rest)) := h ▸ k
end WR
theorem sh_l (x : Int64) : ∀ n, n < 64 → x <<< ((nI n).toInt64 &&& 63) = wd_sl x n := by
  intro n hn
  apply Int64.toBitVec_inj.mp
  have e : ∀ n, n < 64 → ((nI n).toInt64 &&& 63).toBitVec.smod 64 = BitVec.ofNat 64 n := by decide +kernel
  rw [Int64.toBitVec_shiftLeft, e n hn]
  show x.toBitVec <<< (BitVec.ofNat 64 n) = x.toBitVec <<< n
  rw [BitVec.shiftLeft_eq', BitVec.toNat_ofNat, Nat.mod_eq_of_lt (by omega)]
theorem sh_r (x : Int64) : ∀ n, n < 64 → (x.toUInt64 >>> ((nI n).toInt64.toUInt64 &&& Int64.toUInt64 63)).toInt64 = wd_sr x n := by
  intro n hn
  apply Int64.toBitVec_inj.mp
  have e : ∀ n, n < 64 → (((nI n).toInt64.toUInt64 &&& Int64.toUInt64 63).toBitVec % 64).toNat = n := by decide +kernel
  show (x.toUInt64 >>> ((nI n).toInt64.toUInt64 &&& Int64.toUInt64 63)).toBitVec = x.toBitVec >>> n
  rw [UInt64.toBitVec_shiftRight, BitVec.ushiftRight_eq', e n hn]
  rfl
end
section
/-! SMALL ROWS ON INTS, ROWS OF LONGS, REGISTERS -/
theorem ii_1 (k : Nat) : nI k + Int32.ofInt 1 = nI (k + 1) := by
  have e : Int32.ofInt 1 = 1 := by decide +kernel
  rw [e]
  exact nI_1 k
theorem ii_6 (k : Nat) : nI k + Int32.ofInt 6 = nI (k + 6) := by
  have e : Int32.ofInt 6 = nI 6 := by decide +kernel
  rw [e, nI_add]
theorem ii_m (n : Nat) : nI n + Int32.ofInt (-1) = nI n + (-1) := by
  have e : Int32.ofInt (-1) = -1 := by decide +kernel
  rw [e]
theorem ii_d {a b : Nat} (h : a = b + 1) : nI a + Int32.ofInt (-1) = nI b := by
  subst h
  rw [ii_m, pk_m1]
abbrev rm_ (f lo : Nat) : Room := { frames := f, cells := 0, slots := 0, locals := lo }
-- the register's number
def rg_ (r : Int32) : Nat := r.toBitVec.toNat % 4
theorem rg_lt (r : Int32) : rg_ r < 4 := Nat.mod_lt _ (by decide)
theorem rg_and (r : Int32) : r &&& nI 3 = nI (rg_ r) := pk_and r 2 (by decide +kernel)
-- a loop that fills a row from o on
def fl_ (f g : Nat → Int64) (o : Nat) : Nat → Nat → Int64
  | 0 => f
  | k + 1 => vp_updL (fl_ f g o k) (o + k) (g k)
theorem fl_in (f g : Nat → Int64) (o n k : Nat) (hk : k < n) : fl_ f g o n (o + k) = g k := by
  induction n with
  | zero => omega
  | succ n ih =>
    show vp_updL (fl_ f g o n) (o + n) (g n) (o + k) = g k
    by_cases e : k = n
    · subst e; exact pk_uLs
    · rw [pk_uLn (by omega)]
      exact ih (by omega)
theorem fl_out (f g : Nat → Int64) (o n j : Nat) (hj : j < o ∨ o + n ≤ j) : fl_ f g o n j = f j := by
  induction n with
  | zero => rfl
  | succ n ih =>
    show vp_updL (fl_ f g o n) (o + n) (g n) j = f j
    rw [pk_uLn (by omega)]
    exact ih (by omega)
def f0_ (f g : Nat → Int64) : Nat → Nat → Int64
  | 0 => f
  | k + 1 => vp_updL (f0_ f g k) k (g k)
theorem f0_in (f g : Nat → Int64) (n k : Nat) (hk : k < n) : f0_ f g n k = g k := by
  induction n with
  | zero => omega
  | succ n ih =>
    show vp_updL (f0_ f g n) n (g n) k = g k
    by_cases e : k = n
    · subst e; exact pk_uLs
    · rw [pk_uLn e]
      exact ih (by omega)
theorem f0_out (f g : Nat → Int64) (n j : Nat) (hj : n ≤ j) : f0_ f g n j = f j := by
  induction n with
  | zero => rfl
  | succ n ih =>
    show vp_updL (f0_ f g n) n (g n) j = f j
    rw [pk_uLn (by omega)]
    exact ih (by omega)
/-- register i set to a row -/
def rs_ (f : Nat → Int64) (i : Nat) (g : Nat → Int64) : Nat → Int64 := fun j => if i * 5 ≤ j ∧ j < i * 5 + 5 then g (j - i * 5) else f j
theorem rs_fl (f g : Nat → Int64) (i : Nat) : fl_ f g (i * 5) 5 = rs_ f i g := by
  funext j
  unfold rs_
  by_cases h : i * 5 ≤ j ∧ j < i * 5 + 5
  · rw [if_pos h, show j = i * 5 + (j - i * 5) by omega, fl_in f g (i * 5) 5 (j - i * 5) (by omega)]
    congr 1
    omega
  · rw [if_neg h, fl_out f g (i * 5) 5 j (by omega)]
/-- the four registers hold v -/
def rgs_ (f : Nat → Int64) (v : Nat → gf_V) : Prop := ∀ i, i < 4 → rp_ (fun k => f (i * 5 + k)) (v i)
def up_ (v : Nat → gf_V) (i : Nat) (x : gf_V) : Nat → gf_V := fun j => if j = i then x else v j
theorem rgs_set {f : Nat → Int64} {v : Nat → gf_V} {g : Nat → Int64} {x : gf_V} (h : rgs_ f v) (hg : rp_ g x) (i : Nat) : rgs_ (rs_ f i g) (up_ v i x) := by
  intro j hj
  unfold up_
  by_cases e : j = i
  · subst e
    rw [if_pos rfl]
    refine rp_congr hg (fun k hk => ?_)
    show rs_ f j g (j * 5 + k) = g k
    unfold rs_
    rw [if_pos (by omega)]
    congr 1
    omega
  · rw [if_neg e]
    refine rp_congr (h j hj) (fun k hk => ?_)
    show rs_ f i g (j * 5 + k) = f (j * 5 + k)
    unfold rs_
    rw [if_neg (by omega)]
theorem rgs_get {f : Nat → Int64} {v : Nat → gf_V} {g : Nat → Int64} (h : rgs_ f v) (r : Int32) (e : ∀ k, k < 5 → g k = f (rg_ r * 5 + k)) : rp_ g (v (rg_ r)) := rp_congr (h (rg_ r) (rg_lt r)) e
theorem rgs_0 {f : Nat → Int64} (h : ∀ j, f j = 0) : rgs_ f (fun _ => 0#283) := fun i _ => rp_congr rp_0 (fun k _ => h _)
-- the line
def bo_ (a b : Int32) : Int64 := wd_sl a.toInt64 32 ||| (b.toInt64 &&& 4294967295)
def li_ (x : Int32) : Nat := x.toBitVec.toNat % 2147483648 % 5
def ln_ (f : Nat → Int64) (x a b c d : Int32) : Nat → Int64 := vp_updL (vp_updL f (li_ x) (bo_ a b)) ((li_ x + 1) % 5) (bo_ c d)
def gl_ (f : Nat → Int64) : gf_V := wd_of 5 (vp_updL f 4 (f 4 &&& 134217727))
theorem gl_rp {f g : Nat → Int64} (h : ∀ k, k < 5 → g k = (vp_updL f 4 (f 4 &&& 134217727)) k) : rp_ g (gl_ f) := by
  refine rp_congr (rp_self (vp_updL f 4 (f 4 &&& 134217727)) (fun r hr => ?_)) h
  rw [pk_uLs]
  exact wd_mask27 _ r hr
-- the word asked for
def wi_ (x : Int32) : Nat := (x >>> (nI 1 &&& 31)).toBitVec.toNat % 1073741824 % 5
def wa_ (x : Int64) (q : Int32) : Int32 := bif q.toBitVec.toNat % 2 == 0 then x.toInt32 else (wd_sr x 32).toInt32
abbrev o0_ (h0 r ln w a b c x : Nat) : Nat × va_E := (h0, .inr (0, [.ref r, .ref ln, .ref w, .ref a, .ref b, .ref c, .ref x]))
abbrev o1_ (h0 f ln x y z a : Nat) : Nat × va_E := (h0, .inr (1, [.ref f, .ref ln, .ref x, .ref y, .ref z, .ref a]))
end
section
set_option maxHeartbeats 4000000 in
set_option maxRecDepth 100000 in
/-- at(r): five longs a register -/
theorem m0_at (l : Launch) (D : va_G) (cA : ClassId) (p0 : Int32) : MetI_ l yX0_at cX0_at 1 .int (rm_ 0 0) D cA [.int p0] [] (fun r (_ : Unit) => r = nI (rg_ p0 * 5)) (fun _ => []) := by
  refine metI_of (by decide) (Nat.le_of_ble_eq_true rfl) ?_
  intro p e s m below meth c A Q hx hb hml hown hts hK hA ret ls hP hD hl
  have hown : s.vm.findClass "Field283" = some m.cls := hown
  have hS : va_S A s.heap s.heap [] := va_S.rf
  have hl : lv_has ls 1 [(0, .int p0)] := hl
  refine lv_iload_n hx hb dX0_at_0 rfl (lv_at hl 0 rfl) ?_
  refine lv_iconst (v := nI 3) hx hb dX0_at_1 (by decide) ?_
  refine lv_iand hx hb dX0_at_2 ?_
  refine ti_ (nI (rg_ p0)) (rg_and _) ?_
  refine lv_iconst (v := nI 5) hx hb dX0_at_3 (by decide) ?_
  refine lv_imul hx hb dX0_at_4 ?_
  refine ti_ (nI ((rg_ p0) * 5)) (pk_mul _ _) ?_
  exact ret _ () _ _ _ _ dX0_at_5 (vp_nar_int _) rfl hP hD hS
set_option maxHeartbeats 4000000 in
set_option maxRecDepth 100000 in
/-- both(high, low) -/
theorem m0_both (l : Launch) (D : va_G) (cA : ClassId) (p0 p1 : Int32) : MetL_ l yX0_both cX0_both 2 (rm_ 0 0) D cA [.int p0, .int p1] [] (fun r (_ : Unit) => r = bo_ p0 p1) (fun _ => []) := by
  refine metL_of (by decide) (Nat.le_of_ble_eq_true rfl) ?_
  intro p e s m below meth c A Q hx hb hml hown hts hK hA ret ls hP hD hl
  have hown : s.vm.findClass "Field283" = some m.cls := hown
  have hS : va_S A s.heap s.heap [] := va_S.rf
  have hl : lv_has ls 2 [(0, .int p0), (1, .int p1)] := hl
  refine lv_iload_n hx hb dX0_both_0 rfl (lv_at hl 0 rfl) ?_
  refine lv_i2l (v := p0.toInt64) hx hb dX0_both_1 rfl ?_
  refine lv_bipush (v := nI 32) hx hb dX0_both_2 (by decide) ?_
  refine lv_lshl (v := wd_sl p0.toInt64 32) hx hb dX0_both_4 (sh_l _ _ (by decide)) ?_
  refine lv_iload_n hx hb dX0_both_5 rfl (lv_at hl 1 rfl) ?_
  refine lv_i2l (v := p1.toInt64) hx hb dX0_both_6 rfl ?_
  refine lv_ldc2 (v := 4294967295) hx hb hown (hts _ q29) dX0_both_7 ?_
  refine lv_land hx hb dX0_both_10 ?_
  refine lv_lor hx hb dX0_both_11 ?_
  exact ret _ () _ _ _ _ dX0_both_12 rfl hP hD hS
set_option maxHeartbeats 4000000 in
set_option maxRecDepth 100000 in
/-- spread(x) -/
theorem m0_spread (l : Launch) (D : va_G) (cA : ClassId) (x : Int64) : MetL_ l yX0_spread cX0_spread 4 (rm_ 0 0) D cA [.long x] [] (fun r (_ : Unit) => r = sp_f x) (fun _ => []) := by
  refine metL_of (by decide) (Nat.le_of_ble_eq_true rfl) ?_
  intro p e s m below meth c A Q hx hb hml hown hts hK hA ret ls hP hD hl
  have hown : s.vm.findClass "Field283" = some m.cls := hown
  have hS : va_S A s.heap s.heap [] := va_S.rf
  have hl : lv_has ls 4 [(0, .long x)] := hl
  refine lv_lload_n hx hb dX0_spread_0 rfl (lv_at hl 0 rfl) ?_
  refine lv_ldc2 (v := 4294967295) hx hb hown (hts _ q29) dX0_spread_1 ?_
  refine lv_land hx hb dX0_spread_4 ?_
  refine lv_lstore_n (lv' := [(2, .long (x &&& 4294967295)), (0, .long x)]) hx hb dX0_spread_5 rfl hl (by decide) rfl (fun ls hl => ?_)
  refine lv_lload_n hx hb dX0_spread_6 rfl (lv_at hl 0 rfl) ?_
  refine lv_lload_n hx hb dX0_spread_7 rfl (lv_at hl 0 rfl) ?_
  refine lv_bipush (v := nI 16) hx hb dX0_spread_8 (by decide) ?_
  refine lv_lshl (v := wd_sl (x &&& 4294967295) 16) hx hb dX0_spread_10 (sh_l _ _ (by decide)) ?_
  refine lv_lor hx hb dX0_spread_11 ?_
  refine lv_ldc2 (v := 281470681808895) hx hb hown (hts _ q30) dX0_spread_12 ?_
  refine lv_land hx hb dX0_spread_15 ?_
  refine lv_lstore_n (lv' := [(2, .long (((x &&& 4294967295) ||| (wd_sl (x &&& 4294967295) 16)) &&& 281470681808895)), (0, .long x)]) hx hb dX0_spread_16 rfl hl (by decide) rfl (fun ls hl => ?_)
  refine lv_lload_n hx hb dX0_spread_17 rfl (lv_at hl 0 rfl) ?_
  refine lv_lload_n hx hb dX0_spread_18 rfl (lv_at hl 0 rfl) ?_
  refine lv_bipush (v := nI 8) hx hb dX0_spread_19 (by decide) ?_
  refine lv_lshl (v := wd_sl (((x &&& 4294967295) ||| (wd_sl (x &&& 4294967295) 16)) &&& 281470681808895) 8) hx hb dX0_spread_21 (sh_l _ _ (by decide)) ?_
  refine lv_lor hx hb dX0_spread_22 ?_
  refine lv_ldc2 (v := 71777214294589695) hx hb hown (hts _ q31) dX0_spread_23 ?_
  refine lv_land hx hb dX0_spread_26 ?_
  refine lv_lstore_n (lv' := [(2, .long (((((x &&& 4294967295) ||| (wd_sl (x &&& 4294967295) 16)) &&& 281470681808895) ||| (wd_sl (((x &&& 4294967295) ||| (wd_sl (x &&& 4294967295) 16)) &&& 281470681808895) 8)) &&& 71777214294589695)), (0, .long x)]) hx hb dX0_spread_27 rfl hl (by decide) rfl (fun ls hl => ?_)
  refine lv_lload_n hx hb dX0_spread_28 rfl (lv_at hl 0 rfl) ?_
  refine lv_lload_n hx hb dX0_spread_29 rfl (lv_at hl 0 rfl) ?_
  refine lv_iconst (v := nI 4) hx hb dX0_spread_30 (by decide) ?_
  refine lv_lshl (v := wd_sl (((((x &&& 4294967295) ||| (wd_sl (x &&& 4294967295) 16)) &&& 281470681808895) ||| (wd_sl (((x &&& 4294967295) ||| (wd_sl (x &&& 4294967295) 16)) &&& 281470681808895) 8)) &&& 71777214294589695) 4) hx hb dX0_spread_31 (sh_l _ _ (by decide)) ?_
  refine lv_lor hx hb dX0_spread_32 ?_
  refine lv_ldc2 (v := 1085102592571150095) hx hb hown (hts _ q32) dX0_spread_33 ?_
  refine lv_land hx hb dX0_spread_36 ?_
  refine lv_lstore_n (lv' := [(2, .long (((((((x &&& 4294967295) ||| (wd_sl (x &&& 4294967295) 16)) &&& 281470681808895) ||| (wd_sl (((x &&& 4294967295) ||| (wd_sl (x &&& 4294967295) 16)) &&& 281470681808895) 8)) &&& 71777214294589695) ||| (wd_sl (((((x &&& 4294967295) ||| (wd_sl (x &&& 4294967295) 16)) &&& 281470681808895) ||| (wd_sl (((x &&& 4294967295) ||| (wd_sl (x &&& 4294967295) 16)) &&& 281470681808895) 8)) &&& 71777214294589695) 4)) &&& 1085102592571150095)), (0, .long x)]) hx hb dX0_spread_37 rfl hl (by decide) rfl (fun ls hl => ?_)
  refine lv_lload_n hx hb dX0_spread_38 rfl (lv_at hl 0 rfl) ?_
  refine lv_lload_n hx hb dX0_spread_39 rfl (lv_at hl 0 rfl) ?_
  refine lv_iconst (v := nI 2) hx hb dX0_spread_40 (by decide) ?_
  refine lv_lshl (v := wd_sl (((((((x &&& 4294967295) ||| (wd_sl (x &&& 4294967295) 16)) &&& 281470681808895) ||| (wd_sl (((x &&& 4294967295) ||| (wd_sl (x &&& 4294967295) 16)) &&& 281470681808895) 8)) &&& 71777214294589695) ||| (wd_sl (((((x &&& 4294967295) ||| (wd_sl (x &&& 4294967295) 16)) &&& 281470681808895) ||| (wd_sl (((x &&& 4294967295) ||| (wd_sl (x &&& 4294967295) 16)) &&& 281470681808895) 8)) &&& 71777214294589695) 4)) &&& 1085102592571150095) 2) hx hb dX0_spread_41 (sh_l _ _ (by decide)) ?_
  refine lv_lor hx hb dX0_spread_42 ?_
  refine lv_ldc2 (v := 3689348814741910323) hx hb hown (hts _ q33) dX0_spread_43 ?_
  refine lv_land hx hb dX0_spread_46 ?_
  refine lv_lstore_n (lv' := [(2, .long (((((((((x &&& 4294967295) ||| (wd_sl (x &&& 4294967295) 16)) &&& 281470681808895) ||| (wd_sl (((x &&& 4294967295) ||| (wd_sl (x &&& 4294967295) 16)) &&& 281470681808895) 8)) &&& 71777214294589695) ||| (wd_sl (((((x &&& 4294967295) ||| (wd_sl (x &&& 4294967295) 16)) &&& 281470681808895) ||| (wd_sl (((x &&& 4294967295) ||| (wd_sl (x &&& 4294967295) 16)) &&& 281470681808895) 8)) &&& 71777214294589695) 4)) &&& 1085102592571150095) ||| (wd_sl (((((((x &&& 4294967295) ||| (wd_sl (x &&& 4294967295) 16)) &&& 281470681808895) ||| (wd_sl (((x &&& 4294967295) ||| (wd_sl (x &&& 4294967295) 16)) &&& 281470681808895) 8)) &&& 71777214294589695) ||| (wd_sl (((((x &&& 4294967295) ||| (wd_sl (x &&& 4294967295) 16)) &&& 281470681808895) ||| (wd_sl (((x &&& 4294967295) ||| (wd_sl (x &&& 4294967295) 16)) &&& 281470681808895) 8)) &&& 71777214294589695) 4)) &&& 1085102592571150095) 2)) &&& 3689348814741910323)), (0, .long x)]) hx hb dX0_spread_47 rfl hl (by decide) rfl (fun ls hl => ?_)
  refine lv_lload_n hx hb dX0_spread_48 rfl (lv_at hl 0 rfl) ?_
  refine lv_lload_n hx hb dX0_spread_49 rfl (lv_at hl 0 rfl) ?_
  refine lv_iconst (v := nI 1) hx hb dX0_spread_50 (by decide) ?_
  refine lv_lshl (v := wd_sl (((((((((x &&& 4294967295) ||| (wd_sl (x &&& 4294967295) 16)) &&& 281470681808895) ||| (wd_sl (((x &&& 4294967295) ||| (wd_sl (x &&& 4294967295) 16)) &&& 281470681808895) 8)) &&& 71777214294589695) ||| (wd_sl (((((x &&& 4294967295) ||| (wd_sl (x &&& 4294967295) 16)) &&& 281470681808895) ||| (wd_sl (((x &&& 4294967295) ||| (wd_sl (x &&& 4294967295) 16)) &&& 281470681808895) 8)) &&& 71777214294589695) 4)) &&& 1085102592571150095) ||| (wd_sl (((((((x &&& 4294967295) ||| (wd_sl (x &&& 4294967295) 16)) &&& 281470681808895) ||| (wd_sl (((x &&& 4294967295) ||| (wd_sl (x &&& 4294967295) 16)) &&& 281470681808895) 8)) &&& 71777214294589695) ||| (wd_sl (((((x &&& 4294967295) ||| (wd_sl (x &&& 4294967295) 16)) &&& 281470681808895) ||| (wd_sl (((x &&& 4294967295) ||| (wd_sl (x &&& 4294967295) 16)) &&& 281470681808895) 8)) &&& 71777214294589695) 4)) &&& 1085102592571150095) 2)) &&& 3689348814741910323) 1) hx hb dX0_spread_51 (sh_l _ _ (by decide)) ?_
  refine lv_lor hx hb dX0_spread_52 ?_
  refine lv_ldc2 (v := 6148914691236517205) hx hb hown (hts _ q34) dX0_spread_53 ?_
  refine lv_land hx hb dX0_spread_56 ?_
  exact ret _ () _ _ _ _ dX0_spread_57 rfl hP hD hS
set_option maxHeartbeats 4000000 in
set_option maxRecDepth 100000 in
/-- gathered(x) -/
theorem m0_gathered (l : Launch) (D : va_G) (cA : ClassId) (x : Int64) : MetL_ l yX0_gathered cX0_gathered 4 (rm_ 0 0) D cA [.long x] [] (fun r (_ : Unit) => r = ga_f x) (fun _ => []) := by
  refine metL_of (by decide) (Nat.le_of_ble_eq_true rfl) ?_
  intro p e s m below meth c A Q hx hb hml hown hts hK hA ret ls hP hD hl
  have hown : s.vm.findClass "Field283" = some m.cls := hown
  have hS : va_S A s.heap s.heap [] := va_S.rf
  have hl : lv_has ls 4 [(0, .long x)] := hl
  refine lv_lload_n hx hb dX0_gathered_0 rfl (lv_at hl 0 rfl) ?_
  refine lv_ldc2 (v := 6148914691236517205) hx hb hown (hts _ q34) dX0_gathered_1 ?_
  refine lv_land hx hb dX0_gathered_4 ?_
  refine lv_lstore_n (lv' := [(2, .long (x &&& 6148914691236517205)), (0, .long x)]) hx hb dX0_gathered_5 rfl hl (by decide) rfl (fun ls hl => ?_)
  refine lv_lload_n hx hb dX0_gathered_6 rfl (lv_at hl 0 rfl) ?_
  refine lv_lload_n hx hb dX0_gathered_7 rfl (lv_at hl 0 rfl) ?_
  refine lv_iconst (v := nI 1) hx hb dX0_gathered_8 (by decide) ?_
  refine lv_lushr (v := wd_sr (x &&& 6148914691236517205) 1) hx hb dX0_gathered_9 (sh_r _ _ (by decide)) ?_
  refine lv_lor hx hb dX0_gathered_10 ?_
  refine lv_ldc2 (v := 3689348814741910323) hx hb hown (hts _ q33) dX0_gathered_11 ?_
  refine lv_land hx hb dX0_gathered_14 ?_
  refine lv_lstore_n (lv' := [(2, .long (((x &&& 6148914691236517205) ||| (wd_sr (x &&& 6148914691236517205) 1)) &&& 3689348814741910323)), (0, .long x)]) hx hb dX0_gathered_15 rfl hl (by decide) rfl (fun ls hl => ?_)
  refine lv_lload_n hx hb dX0_gathered_16 rfl (lv_at hl 0 rfl) ?_
  refine lv_lload_n hx hb dX0_gathered_17 rfl (lv_at hl 0 rfl) ?_
  refine lv_iconst (v := nI 2) hx hb dX0_gathered_18 (by decide) ?_
  refine lv_lushr (v := wd_sr (((x &&& 6148914691236517205) ||| (wd_sr (x &&& 6148914691236517205) 1)) &&& 3689348814741910323) 2) hx hb dX0_gathered_19 (sh_r _ _ (by decide)) ?_
  refine lv_lor hx hb dX0_gathered_20 ?_
  refine lv_ldc2 (v := 1085102592571150095) hx hb hown (hts _ q32) dX0_gathered_21 ?_
  refine lv_land hx hb dX0_gathered_24 ?_
  refine lv_lstore_n (lv' := [(2, .long (((((x &&& 6148914691236517205) ||| (wd_sr (x &&& 6148914691236517205) 1)) &&& 3689348814741910323) ||| (wd_sr (((x &&& 6148914691236517205) ||| (wd_sr (x &&& 6148914691236517205) 1)) &&& 3689348814741910323) 2)) &&& 1085102592571150095)), (0, .long x)]) hx hb dX0_gathered_25 rfl hl (by decide) rfl (fun ls hl => ?_)
  refine lv_lload_n hx hb dX0_gathered_26 rfl (lv_at hl 0 rfl) ?_
  refine lv_lload_n hx hb dX0_gathered_27 rfl (lv_at hl 0 rfl) ?_
  refine lv_iconst (v := nI 4) hx hb dX0_gathered_28 (by decide) ?_
  refine lv_lushr (v := wd_sr (((((x &&& 6148914691236517205) ||| (wd_sr (x &&& 6148914691236517205) 1)) &&& 3689348814741910323) ||| (wd_sr (((x &&& 6148914691236517205) ||| (wd_sr (x &&& 6148914691236517205) 1)) &&& 3689348814741910323) 2)) &&& 1085102592571150095) 4) hx hb dX0_gathered_29 (sh_r _ _ (by decide)) ?_
  refine lv_lor hx hb dX0_gathered_30 ?_
  refine lv_ldc2 (v := 71777214294589695) hx hb hown (hts _ q31) dX0_gathered_31 ?_
  refine lv_land hx hb dX0_gathered_34 ?_
  refine lv_lstore_n (lv' := [(2, .long (((((((x &&& 6148914691236517205) ||| (wd_sr (x &&& 6148914691236517205) 1)) &&& 3689348814741910323) ||| (wd_sr (((x &&& 6148914691236517205) ||| (wd_sr (x &&& 6148914691236517205) 1)) &&& 3689348814741910323) 2)) &&& 1085102592571150095) ||| (wd_sr (((((x &&& 6148914691236517205) ||| (wd_sr (x &&& 6148914691236517205) 1)) &&& 3689348814741910323) ||| (wd_sr (((x &&& 6148914691236517205) ||| (wd_sr (x &&& 6148914691236517205) 1)) &&& 3689348814741910323) 2)) &&& 1085102592571150095) 4)) &&& 71777214294589695)), (0, .long x)]) hx hb dX0_gathered_35 rfl hl (by decide) rfl (fun ls hl => ?_)
  refine lv_lload_n hx hb dX0_gathered_36 rfl (lv_at hl 0 rfl) ?_
  refine lv_lload_n hx hb dX0_gathered_37 rfl (lv_at hl 0 rfl) ?_
  refine lv_bipush (v := nI 8) hx hb dX0_gathered_38 (by decide) ?_
  refine lv_lushr (v := wd_sr (((((((x &&& 6148914691236517205) ||| (wd_sr (x &&& 6148914691236517205) 1)) &&& 3689348814741910323) ||| (wd_sr (((x &&& 6148914691236517205) ||| (wd_sr (x &&& 6148914691236517205) 1)) &&& 3689348814741910323) 2)) &&& 1085102592571150095) ||| (wd_sr (((((x &&& 6148914691236517205) ||| (wd_sr (x &&& 6148914691236517205) 1)) &&& 3689348814741910323) ||| (wd_sr (((x &&& 6148914691236517205) ||| (wd_sr (x &&& 6148914691236517205) 1)) &&& 3689348814741910323) 2)) &&& 1085102592571150095) 4)) &&& 71777214294589695) 8) hx hb dX0_gathered_40 (sh_r _ _ (by decide)) ?_
  refine lv_lor hx hb dX0_gathered_41 ?_
  refine lv_ldc2 (v := 281470681808895) hx hb hown (hts _ q30) dX0_gathered_42 ?_
  refine lv_land hx hb dX0_gathered_45 ?_
  refine lv_lstore_n (lv' := [(2, .long (((((((((x &&& 6148914691236517205) ||| (wd_sr (x &&& 6148914691236517205) 1)) &&& 3689348814741910323) ||| (wd_sr (((x &&& 6148914691236517205) ||| (wd_sr (x &&& 6148914691236517205) 1)) &&& 3689348814741910323) 2)) &&& 1085102592571150095) ||| (wd_sr (((((x &&& 6148914691236517205) ||| (wd_sr (x &&& 6148914691236517205) 1)) &&& 3689348814741910323) ||| (wd_sr (((x &&& 6148914691236517205) ||| (wd_sr (x &&& 6148914691236517205) 1)) &&& 3689348814741910323) 2)) &&& 1085102592571150095) 4)) &&& 71777214294589695) ||| (wd_sr (((((((x &&& 6148914691236517205) ||| (wd_sr (x &&& 6148914691236517205) 1)) &&& 3689348814741910323) ||| (wd_sr (((x &&& 6148914691236517205) ||| (wd_sr (x &&& 6148914691236517205) 1)) &&& 3689348814741910323) 2)) &&& 1085102592571150095) ||| (wd_sr (((((x &&& 6148914691236517205) ||| (wd_sr (x &&& 6148914691236517205) 1)) &&& 3689348814741910323) ||| (wd_sr (((x &&& 6148914691236517205) ||| (wd_sr (x &&& 6148914691236517205) 1)) &&& 3689348814741910323) 2)) &&& 1085102592571150095) 4)) &&& 71777214294589695) 8)) &&& 281470681808895)), (0, .long x)]) hx hb dX0_gathered_46 rfl hl (by decide) rfl (fun ls hl => ?_)
  refine lv_lload_n hx hb dX0_gathered_47 rfl (lv_at hl 0 rfl) ?_
  refine lv_lload_n hx hb dX0_gathered_48 rfl (lv_at hl 0 rfl) ?_
  refine lv_bipush (v := nI 16) hx hb dX0_gathered_49 (by decide) ?_
  refine lv_lushr (v := wd_sr (((((((((x &&& 6148914691236517205) ||| (wd_sr (x &&& 6148914691236517205) 1)) &&& 3689348814741910323) ||| (wd_sr (((x &&& 6148914691236517205) ||| (wd_sr (x &&& 6148914691236517205) 1)) &&& 3689348814741910323) 2)) &&& 1085102592571150095) ||| (wd_sr (((((x &&& 6148914691236517205) ||| (wd_sr (x &&& 6148914691236517205) 1)) &&& 3689348814741910323) ||| (wd_sr (((x &&& 6148914691236517205) ||| (wd_sr (x &&& 6148914691236517205) 1)) &&& 3689348814741910323) 2)) &&& 1085102592571150095) 4)) &&& 71777214294589695) ||| (wd_sr (((((((x &&& 6148914691236517205) ||| (wd_sr (x &&& 6148914691236517205) 1)) &&& 3689348814741910323) ||| (wd_sr (((x &&& 6148914691236517205) ||| (wd_sr (x &&& 6148914691236517205) 1)) &&& 3689348814741910323) 2)) &&& 1085102592571150095) ||| (wd_sr (((((x &&& 6148914691236517205) ||| (wd_sr (x &&& 6148914691236517205) 1)) &&& 3689348814741910323) ||| (wd_sr (((x &&& 6148914691236517205) ||| (wd_sr (x &&& 6148914691236517205) 1)) &&& 3689348814741910323) 2)) &&& 1085102592571150095) 4)) &&& 71777214294589695) 8)) &&& 281470681808895) 16) hx hb dX0_gathered_51 (sh_r _ _ (by decide)) ?_
  refine lv_lor hx hb dX0_gathered_52 ?_
  refine lv_ldc2 (v := 4294967295) hx hb hown (hts _ q29) dX0_gathered_53 ?_
  refine lv_land hx hb dX0_gathered_56 ?_
  exact ret _ () _ _ _ _ dX0_gathered_57 rfl hP hD hS
set_option maxHeartbeats 4000000 in
set_option maxRecDepth 100000 in
/-- turned(x) -/
theorem m0_turned (l : Launch) (D : va_G) (cA : ClassId) (x : Int64) : MetL_ l yX0_turned cX0_turned 7 (rm_ 0 0) D cA [.long x] [] (fun r (_ : Unit) => r = tu_f x) (fun _ => []) := by
  refine metL_of (by decide) (Nat.le_of_ble_eq_true rfl) ?_
  intro p e s m below meth c A Q hx hb hml hown hts hK hA ret ls hP hD hl
  have hown : s.vm.findClass "Field283" = some m.cls := hown
  have hS : va_S A s.heap s.heap [] := va_S.rf
  have hl : lv_has ls 7 [(0, .long x)] := hl
  refine lv_lload_n hx hb dX0_turned_0 rfl (lv_at hl 0 rfl) ?_
  refine lv_lstore_n (lv' := [(2, .long x), (0, .long x)]) hx hb dX0_turned_1 rfl hl (by decide) rfl (fun ls hl => ?_)
  refine lv_ldc2 (v := -1) hx hb hown (hts _ q110) dX0_turned_2 ?_
  refine lv_lstore (lv' := [(4, .long (-1)), (2, .long x), (0, .long x)]) hx hb dX0_turned_5 hl (by decide) rfl (fun ls hl => ?_)
  refine lv_bipush (v := nI 32) hx hb dX0_turned_7 (by decide) ?_
  refine lv_istore (lv' := [(6, .int (nI 32)), (4, .long (-1)), (2, .long x), (0, .long x)]) hx hb dX0_turned_9 hl (by decide) rfl (fun ls hl => ?_)
  have tq_1 : ∀ t, t < 6 → ¬ nI (32 / 2 ^ t) ≤ 0 := by decide +kernel
  have tq_2 : ∀ t, t < 6 → 32 / 2 ^ t < 64 := by decide +kernel
  have tq_3 : ∀ t, t < 6 → nI (32 / 2 ^ t) >>> (nI 1 &&& 31) = nI (32 / 2 ^ (t + 1)) := by decide +kernel
  have lp : ∀ (n t : Nat), t + n = 6 → ∀ (H : Heap) (locs : List Loc) (ls : Array Slot), va_P D wk_Cl [] H → va_D A [] → va_S A s.heap H locs → lv_has ls 7 [(6, .int (nI (32 / 2 ^ t))), (4, .long (tu_m t)), (2, .long (tu_v x t)), (0, .long x)] → W p l e (rm_ 0 0) s m ([.long x] : List Value).toArray below meth c H locs 0 0 Q (F0 m 11 ls []) := by
    intro n
    induction n with
    | zero =>
      intro t ht H locs ls hP hD hS hl
      obtain rfl : t = 6 := by omega
      refine lv_iload hx hb dX0_turned_11 (lv_at hl 0 rfl) ?_
      refine lv_if_le (tgt := 55) hx hb dX0_turned_13 (by decide) (fun _ => ?_) (fun hc => absurd (by decide) hc)
      refine lv_lload_n hx hb dX0_turned_55 rfl (lv_at hl 2 rfl) ?_
      exact ret _ () _ _ _ _ dX0_turned_56 rfl hP hD hS
    | succ n ih =>
      intro t ht H locs ls hP hD hS hl
      have h6 : t < 6 := by omega
      refine lv_iload hx hb dX0_turned_11 (lv_at hl 0 rfl) ?_
      refine lv_if_le (tgt := 55) hx hb dX0_turned_13 (by decide) (fun hc => absurd hc (tq_1 t h6)) (fun _ => ?_)
      refine lv_lload hx hb dX0_turned_16 (lv_at hl 1 rfl) ?_
      refine lv_lload hx hb dX0_turned_18 (lv_at hl 1 rfl) ?_
      refine lv_iload hx hb dX0_turned_20 (lv_at hl 0 rfl) ?_
      refine lv_lshl (v := wd_sl (tu_m t) (32 / 2 ^ t)) hx hb dX0_turned_22 (sh_l _ _ (tq_2 t h6)) ?_
      refine lv_lxor hx hb dX0_turned_23 ?_
      refine tl_ (tu_m (t + 1)) rfl ?_
      refine lv_lstore (lv' := [(4, .long (tu_m (t + 1))), (6, .int (nI (32 / 2 ^ t))), (2, .long (tu_v x t)), (0, .long x)]) hx hb dX0_turned_24 hl (by decide) rfl (fun ls hl => ?_)
      refine lv_lload_n hx hb dX0_turned_26 rfl (lv_at hl 2 rfl) ?_
      refine lv_iload hx hb dX0_turned_27 (lv_at hl 1 rfl) ?_
      refine lv_lushr (v := wd_sr (tu_v x t) (32 / 2 ^ t)) hx hb dX0_turned_29 (sh_r _ _ (tq_2 t h6)) ?_
      refine lv_lload hx hb dX0_turned_30 (lv_at hl 0 rfl) ?_
      refine lv_land hx hb dX0_turned_32 ?_
      refine lv_lload_n hx hb dX0_turned_33 rfl (lv_at hl 2 rfl) ?_
      refine lv_iload hx hb dX0_turned_34 (lv_at hl 1 rfl) ?_
      refine lv_lshl (v := wd_sl (tu_v x t) (32 / 2 ^ t)) hx hb dX0_turned_36 (sh_l _ _ (tq_2 t h6)) ?_
      refine lv_lload hx hb dX0_turned_37 (lv_at hl 0 rfl) ?_
      refine lv_ldc2 (v := -1) hx hb hown (hts _ q110) dX0_turned_39 ?_
      refine lv_lxor hx hb dX0_turned_42 ?_
      refine lv_land hx hb dX0_turned_43 ?_
      refine lv_lor hx hb dX0_turned_44 ?_
      refine tl_ (tu_v x (t + 1)) rfl ?_
      refine lv_lstore_n (lv' := [(2, .long (tu_v x (t + 1))), (4, .long (tu_m (t + 1))), (6, .int (nI (32 / 2 ^ t))), (0, .long x)]) hx hb dX0_turned_45 rfl hl (by decide) rfl (fun ls hl => ?_)
      refine lv_iload hx hb dX0_turned_46 (lv_at hl 2 rfl) ?_
      refine lv_iconst (v := nI 1) hx hb dX0_turned_48 (by decide) ?_
      refine lv_ishr hx hb dX0_turned_49 ?_
      refine ti_ (nI (32 / 2 ^ (t + 1))) (tq_3 t h6) ?_
      refine lv_istore (lv' := [(6, .int (nI (32 / 2 ^ (t + 1)))), (2, .long (tu_v x (t + 1))), (4, .long (tu_m (t + 1))), (0, .long x)]) hx hb dX0_turned_50 hl (by decide) rfl (fun ls hl => ?_)
      refine lv_goto (tgt := 11) hx hb dX0_turned_52 (by decide) ?_
      exact ih (t + 1) (by omega) _ _ _ hP hD hS (lv_sub hl [0, 2, 1, 3] rfl)
  exact lp 6 0 rfl _ _ _ hP hD hS (lv_sub hl [0, 1, 2, 3] rfl)
set_option maxHeartbeats 4000000 in
set_option maxRecDepth 100000 in
/-- low(x, y) -/
theorem m0_low (l : Launch) (D : va_G) (cA : ClassId) (x y : Int64) : MetL_ l yX0_low cX0_low 10 (rm_ 0 0) D cA [.long x, .long y] [] (fun r (_ : Unit) => r = lo_f x y) (fun _ => []) := by
  refine metL_of (by decide) (Nat.le_of_ble_eq_true rfl) ?_
  intro p e s m below meth c A Q hx hb hml hown hts hK hA ret ls hP hD hl
  have hown : s.vm.findClass "Field283" = some m.cls := hown
  have hS : va_S A s.heap s.heap [] := va_S.rf
  have hl : lv_has ls 10 [(0, .long x), (2, .long y)] := hl
  refine lv_lconst (v := 0) hx hb dX0_low_0 (by decide) ?_
  refine lv_lstore (lv' := [(4, .long 0), (0, .long x), (2, .long y)]) hx hb dX0_low_1 hl (by decide) rfl (fun ls hl => ?_)
  refine lv_iconst (v := nI 0) hx hb dX0_low_3 (by decide) ?_
  refine lv_istore (lv' := [(6, .int (nI 0)), (4, .long 0), (0, .long x), (2, .long y)]) hx hb dX0_low_4 hl (by decide) rfl (fun ls hl => ?_)
  have lq_1 : ∀ i, i < 4 → ∀ k, k < 4 → (nI i - nI k) &&& nI 3 = nI ((i + 4 - k) % 4) := by decide +kernel
  have lq_2 : ∀ k, k < 4 → ¬ nI 4 ≤ nI k := by decide +kernel
  have lp : ∀ (n i : Nat), i + n = 4 → ∀ (H : Heap) (locs : List Loc) (ls : Array Slot), va_P D wk_Cl [] H → va_D A [] → va_S A s.heap H locs → lv_has ls 10 [(6, .int (nI i)), (4, .long (lo_out x y i)), (0, .long x), (2, .long y)] → W p l e (rm_ 0 0) s m ([.long x, .long y] : List Value).toArray below meth c H locs 0 0 Q (F0 m 6 ls []) := by
    intro n
    induction n with
    | zero =>
      intro i hi H locs ls hP hD hS hl
      obtain rfl : i = 4 := by omega
      refine lv_iload hx hb dX0_low_6 (lv_at hl 0 rfl) ?_
      refine lv_iconst (v := nI 4) hx hb dX0_low_8 (by decide) ?_
      refine lv_icmp_ge (tgt := 77) hx hb dX0_low_9 (by decide) (fun _ => ?_) (fun hc => absurd (by decide) hc)
      refine lv_lload hx hb dX0_low_77 (lv_at hl 1 rfl) ?_
      exact ret _ () _ _ _ _ dX0_low_79 rfl hP hD hS
    | succ n ih =>
      intro i hi H locs ls hP hD hS hl
      have h4 : i < 4 := by omega
      refine lv_iload hx hb dX0_low_6 (lv_at hl 0 rfl) ?_
      refine lv_iconst (v := nI 4) hx hb dX0_low_8 (by decide) ?_
      refine lv_icmp_ge (tgt := 77) hx hb dX0_low_9 (by decide) (fun hc => absurd hc (lq_2 i h4)) (fun _ => ?_)
      refine lv_lconst (v := 0) hx hb dX0_low_12 (by decide) ?_
      refine lv_lstore (lv' := [(7, .long 0), (6, .int (nI i)), (4, .long (lo_out x y i)), (0, .long x), (2, .long y)]) hx hb dX0_low_13 hl (by decide) rfl (fun ls hl => ?_)
      refine lv_iconst (v := nI 0) hx hb dX0_low_15 (by decide) ?_
      refine lv_istore (lv' := [(9, .int (nI 0)), (7, .long 0), (6, .int (nI i)), (4, .long (lo_out x y i)), (0, .long x), (2, .long y)]) hx hb dX0_low_16 hl (by decide) rfl (fun ls hl => ?_)
      have lk : ∀ (n2 k : Nat), k + n2 = 4 → ∀ (H : Heap) (locs : List Loc) (ls : Array Slot), va_P D wk_Cl [] H → va_D A [] → va_S A s.heap H locs → lv_has ls 10 [(9, .int (nI k)), (7, .long (lo_in x y i k)), (6, .int (nI i)), (4, .long (lo_out x y i)), (0, .long x), (2, .long y)] → W p l e (rm_ 0 0) s m ([.long x, .long y] : List Value).toArray below meth c H locs 0 0 Q (F0 m 18 ls []) := by
        intro n2
        induction n2 with
        | zero =>
          intro k hk H locs ls hP hD hS hl
          obtain rfl : k = 4 := by omega
          refine lv_iload hx hb dX0_low_18 (lv_at hl 0 rfl) ?_
          refine lv_iconst (v := nI 4) hx hb dX0_low_20 (by decide) ?_
          refine lv_icmp_ge (tgt := 57) hx hb dX0_low_21 (by decide) (fun _ => ?_) (fun hc => absurd (by decide) hc)
          refine lv_lload hx hb dX0_low_57 (lv_at hl 3 rfl) ?_
          refine lv_lload hx hb dX0_low_59 (lv_at hl 1 rfl) ?_
          refine lv_ldc2 (v := 1229782938247303441) hx hb hown (hts _ q114) dX0_low_61 ?_
          refine lv_iload hx hb dX0_low_64 (lv_at hl 2 rfl) ?_
          refine lv_lshl (v := wd_sl 1229782938247303441 i) hx hb dX0_low_66 (sh_l _ _ (by omega)) ?_
          refine lv_land hx hb dX0_low_67 ?_
          refine lv_lor hx hb dX0_low_68 ?_
          refine tl_ (lo_out x y (i + 1)) rfl ?_
          refine lv_lstore (lv' := [(4, .long (lo_out x y (i + 1))), (9, .int (nI 4)), (7, .long (lo_in x y i 4)), (6, .int (nI i)), (0, .long x), (2, .long y)]) hx hb dX0_low_69 hl (by decide) rfl (fun ls hl => ?_)
          refine lv_iinc (v := nI (i + 1)) (lv' := [(6, .int (nI (i + 1))), (4, .long (lo_out x y (i + 1))), (9, .int (nI 4)), (7, .long (lo_in x y i 4)), (0, .long x), (2, .long y)]) hx hb dX0_low_71 hl (k := 3) rfl (ii_1 _) (by decide) rfl (fun ls hl => ?_)
          refine lv_goto (tgt := 6) hx hb dX0_low_74 (by decide) ?_
          exact ih (i + 1) (by omega) _ _ _ hP hD hS (lv_sub hl [0, 1, 4, 5] rfl)
        | succ n2 ih2 =>
          intro k hk H locs ls hP hD hS hl
          have hk4 : k < 4 := by omega
          refine lv_iload hx hb dX0_low_18 (lv_at hl 0 rfl) ?_
          refine lv_iconst (v := nI 4) hx hb dX0_low_20 (by decide) ?_
          refine lv_icmp_ge (tgt := 57) hx hb dX0_low_21 (by decide) (fun hc => absurd hc (lq_2 k hk4)) (fun _ => ?_)
          refine lv_lload hx hb dX0_low_24 (lv_at hl 1 rfl) ?_
          refine lv_lload_n hx hb dX0_low_26 rfl (lv_at hl 4 rfl) ?_
          refine lv_ldc2 (v := 1229782938247303441) hx hb hown (hts _ q114) dX0_low_27 ?_
          refine lv_iload hx hb dX0_low_30 (lv_at hl 0 rfl) ?_
          refine lv_lshl (v := wd_sl 1229782938247303441 k) hx hb dX0_low_32 (sh_l _ _ (by omega)) ?_
          refine lv_land hx hb dX0_low_33 ?_
          refine lv_lload_n hx hb dX0_low_34 rfl (lv_at hl 5 rfl) ?_
          refine lv_ldc2 (v := 1229782938247303441) hx hb hown (hts _ q114) dX0_low_35 ?_
          refine lv_iload hx hb dX0_low_38 (lv_at hl 2 rfl) ?_
          refine lv_iload hx hb dX0_low_40 (lv_at hl 0 rfl) ?_
          refine lv_isub hx hb dX0_low_42 ?_
          refine ti_ (nI i - nI k) rfl ?_
          refine lv_iconst (v := nI 3) hx hb dX0_low_43 (by decide) ?_
          refine lv_iand hx hb dX0_low_44 ?_
          refine ti_ (nI ((i + 4 - k) % 4)) (lq_1 i h4 k hk4) ?_
          refine lv_lshl (v := wd_sl 1229782938247303441 ((i + 4 - k) % 4)) hx hb dX0_low_45 (sh_l _ _ (by omega)) ?_
          refine lv_land hx hb dX0_low_46 ?_
          refine lv_lmul hx hb dX0_low_47 ?_
          refine lv_lxor hx hb dX0_low_48 ?_
          refine tl_ (lo_in x y i (k + 1)) rfl ?_
          refine lv_lstore (lv' := [(7, .long (lo_in x y i (k + 1))), (9, .int (nI k)), (6, .int (nI i)), (4, .long (lo_out x y i)), (0, .long x), (2, .long y)]) hx hb dX0_low_49 hl (by decide) rfl (fun ls hl => ?_)
          refine lv_iinc (v := nI (k + 1)) (lv' := [(9, .int (nI (k + 1))), (7, .long (lo_in x y i (k + 1))), (6, .int (nI i)), (4, .long (lo_out x y i)), (0, .long x), (2, .long y)]) hx hb dX0_low_51 hl (k := 1) rfl (ii_1 _) (by decide) rfl (fun ls hl => ?_)
          refine lv_goto (tgt := 18) hx hb dX0_low_54 (by decide) ?_
          exact ih2 (k + 1) (by omega) _ _ _ hP hD hS (lv_sub hl [0, 1, 2, 3, 4, 5] rfl)
      exact lk 4 0 rfl _ _ _ hP hD hS (lv_sub hl [0, 1, 2, 3, 4, 5] rfl)
  exact lp 4 0 rfl _ _ _ hP hD hS (lv_sub hl [0, 1, 2, 3] rfl)
end
section
set_option maxHeartbeats 4000000 in
set_option maxRecDepth 100000 in
/-- get(to, r): the register, five longs -/
theorem m0_get (l : Launch) (D : va_G) (cA : ClassId) (h0 qr qn qw qa qb qc qx : Nat) (qt : Nat) (fr ft : Nat → Int64) (p0 : Int32) : MetV_ l yX0_get cX0_get 4 (rm_ 1 20) D cA [.ref h0, .ref qt, .int p0] [o0_ h0 qr qn qw qa qb qc qx, ar_ qr cA 20 fr, ar_ qt cA 5 ft] (fun u : Nat → Int64 => ∀ k, k < 5 → u k = fr (rg_ p0 * 5 + k)) (fun u => [o0_ h0 qr qn qw qa qb qc qx, ar_ qr cA 20 fr, ar_ qt cA 5 u]) := by
  refine metV_of (by decide) (Nat.le_of_ble_eq_true rfl) ?_
  intro p e s m below meth c A Q hx hb hml hown hts hK hA ret ls hP hD hl
  have hown : s.vm.findClass "Field283" = some m.cls := hown
  have hS : va_S A s.heap s.heap [] := va_S.rf
  have hl : lv_has ls 4 [(0, .ref h0), (1, .ref qt), (2, .int p0)] := hl
  have lq : ∀ k, k < 5 → ¬ nI 5 ≤ nI k := by decide +kernel
  have hrg := rg_lt p0
  refine lv_iconst (v := nI 0) hx hb dX0_get_0 (by decide) ?_
  refine lv_istore_n (lv' := [(3, .int (nI 0)), (0, .ref h0), (1, .ref qt), (2, .int p0)]) hx hb dX0_get_1 rfl hl (by decide) rfl (fun ls hl => ?_)
  have lp : ∀ (n k : Nat), k + n = 5 → ∀ (H : Heap) (locs : List Loc) (ls : Array Slot), va_P D wk_Cl [o0_ h0 qr qn qw qa qb qc qx, ar_ qr cA 20 fr, ar_ qt cA 5 (f0_ ft (fun k => fr (rg_ p0 * 5 + k)) k)] H → va_D A [o0_ h0 qr qn qw qa qb qc qx, ar_ qr cA 20 fr, ar_ qt cA 5 (f0_ ft (fun k => fr (rg_ p0 * 5 + k)) k)] → va_S A s.heap H locs → lv_has ls 4 [(3, .int (nI k)), (0, .ref h0), (1, .ref qt), (2, .int p0)] → W p l e (rm_ 1 20) s m ([.ref h0, .ref qt, .int p0] : List Value).toArray below meth c H locs 0 0 Q (F0 m 2 ls []) := by
    intro n
    induction n with
    | zero =>
      intro k hkk H locs ls hP hD hS hl
      obtain rfl : k = 5 := by omega
      refine lv_iload_n hx hb dX0_get_2 rfl (lv_at hl 0 rfl) ?_
      refine lv_iconst (v := nI 5) hx hb dX0_get_3 (by decide) ?_
      refine lv_icmp_ge (tgt := 27) hx hb dX0_get_4 (by decide) (fun _ => ?_) (fun hc => absurd (by decide) hc)
      exact ret (f0_ ft (fun k => fr (rg_ p0 * 5 + k)) 5) _ _ _ _ dX0_get_27 (fun k hk => f0_in ft (fun k => fr (rg_ p0 * 5 + k)) 5 k hk) hP hD hS
    | succ n ih =>
      intro k hkk H locs ls hP hD hS hl
      have hk : k < 5 := by omega
      refine lv_iload_n hx hb dX0_get_2 rfl (lv_at hl 0 rfl) ?_
      refine lv_iconst (v := nI 5) hx hb dX0_get_3 (by decide) ?_
      refine lv_icmp_ge (tgt := 27) hx hb dX0_get_4 (by decide) (fun hc => absurd hc (lq k hk)) (fun _ => ?_)
      refine lv_aload_n hx hb dX0_get_7 rfl (lv_at hl 2 rfl) ?_
      refine lv_iload_n hx hb dX0_get_8 rfl (lv_at hl 0 rfl) ?_
      refine lv_aload_n hx hb dX0_get_9 rfl (lv_at hl 1 rfl) ?_
      refine va_get (D := D) (ci := 0) (v := .ref qr) (C := RX0) (T := TX0) (N := 7) hx hb hts in_X0 hown hK hP 0 rfl rfl 0 (by decide) (hts _ q40) (fun _ h9 => h9) rfl dX0_get_10 ?_
      refine lv_iload_n hx hb dX0_get_13 rfl (lv_at hl 3 rfl) ?_
      refine cs_i (v := nI (rg_ p0 * 5)) (n := 1) (As := [.int p0]) (rest := [.ref qr, .int (nI k), .ref qt]) hx hb hml hown hts hK (m0_at l D cA p0) (lw_S q79 q80 q11 q81) (by decide +kernel) rfl ⟨rfl, rfl⟩ ⟨Nat.le_of_ble_eq_true rfl, Nat.le_of_ble_eq_true rfl⟩ ⟨Nat.zero_le _, Nat.zero_le _⟩ hP hD hS hA hl.1 rfl (Nat.le_of_ble_eq_true rfl) dX0_get_14 (fun H locs hP hS => ?_)
      refine lv_iload_n hx hb dX0_get_17 rfl (lv_at hl 0 rfl) ?_
      refine lv_iadd hx hb dX0_get_18 ?_
      refine ti_ (nI (rg_ p0 * 5 + k)) (nI_add _ _) ?_
      refine la_ (v := fr (rg_ p0 * 5 + k)) hx hb hK hP 1 rfl (rg_ p0 * 5 + k) rfl (by omega) (by decide) rfl dX0_get_19 ?_
      refine st_ hx hb hK hP hD hS 2 rfl k rfl (by omega) (by decide) dX0_get_20 (fun g_1 H locs hg_1 hP hD hS => ?_)
      obtain rfl : g_1 = f0_ ft (fun k => fr (rg_ p0 * 5 + k)) (k + 1) := hg_1
      have hP : va_P D wk_Cl [o0_ h0 qr qn qw qa qb qc qx, ar_ qr cA 20 fr, ar_ qt cA 5 (f0_ ft (fun k => fr (rg_ p0 * 5 + k)) (k + 1))] H := hP
      have hD : va_D A [o0_ h0 qr qn qw qa qb qc qx, ar_ qr cA 20 fr, ar_ qt cA 5 (f0_ ft (fun k => fr (rg_ p0 * 5 + k)) (k + 1))] := hD
      refine lv_iinc (v := nI (k + 1)) (lv' := [(3, .int (nI (k + 1))), (0, .ref h0), (1, .ref qt), (2, .int p0)]) hx hb dX0_get_21 hl (k := 0) rfl (ii_1 _) (by decide) rfl (fun ls hl => ?_)
      refine lv_goto (tgt := 2) hx hb dX0_get_24 (by decide) ?_
      exact ih (k + 1) (by omega) _ _ _ hP hD hS (lv_sub hl [0, 1, 2, 3] rfl)
  exact lp 5 0 rfl _ _ _ hP hD hS (lv_sub hl [0, 1, 2, 3] rfl)
set_option maxHeartbeats 4000000 in
set_option maxRecDepth 100000 in
/-- set(r): the register becomes a -/
theorem m0_set (l : Launch) (D : va_G) (cA : ClassId) (h0 qr qn qw qa qb qc qx : Nat) (fr fa : Nat → Int64) (p0 : Int32) : MetV_ l yX0_set cX0_set 3 (rm_ 1 20) D cA [.ref h0, .int p0] [o0_ h0 qr qn qw qa qb qc qx, ar_ qr cA 20 fr, ar_ qa cA 5 fa] (fun u : Nat → Int64 => u = rs_ fr (rg_ p0) fa) (fun u => [o0_ h0 qr qn qw qa qb qc qx, ar_ qr cA 20 u, ar_ qa cA 5 fa]) := by
  refine metV_of (by decide) (Nat.le_of_ble_eq_true rfl) ?_
  intro p e s m below meth c A Q hx hb hml hown hts hK hA ret ls hP hD hl
  have hown : s.vm.findClass "Field283" = some m.cls := hown
  have hS : va_S A s.heap s.heap [] := va_S.rf
  have hl : lv_has ls 3 [(0, .ref h0), (1, .int p0)] := hl
  have lq : ∀ k, k < 5 → ¬ nI 5 ≤ nI k := by decide +kernel
  have hrg := rg_lt p0
  refine lv_iconst (v := nI 0) hx hb dX0_set_0 (by decide) ?_
  refine lv_istore_n (lv' := [(2, .int (nI 0)), (0, .ref h0), (1, .int p0)]) hx hb dX0_set_1 rfl hl (by decide) rfl (fun ls hl => ?_)
  have lp : ∀ (n k : Nat), k + n = 5 → ∀ (H : Heap) (locs : List Loc) (ls : Array Slot), va_P D wk_Cl [o0_ h0 qr qn qw qa qb qc qx, ar_ qr cA 20 (fl_ fr fa (rg_ p0 * 5) k), ar_ qa cA 5 fa] H → va_D A [o0_ h0 qr qn qw qa qb qc qx, ar_ qr cA 20 (fl_ fr fa (rg_ p0 * 5) k), ar_ qa cA 5 fa] → va_S A s.heap H locs → lv_has ls 3 [(2, .int (nI k)), (0, .ref h0), (1, .int p0)] → W p l e (rm_ 1 20) s m ([.ref h0, .int p0] : List Value).toArray below meth c H locs 0 0 Q (F0 m 2 ls []) := by
    intro n
    induction n with
    | zero =>
      intro k hkk H locs ls hP hD hS hl
      obtain rfl : k = 5 := by omega
      refine lv_iload_n hx hb dX0_set_2 rfl (lv_at hl 0 rfl) ?_
      refine lv_iconst (v := nI 5) hx hb dX0_set_3 (by decide) ?_
      refine lv_icmp_ge (tgt := 30) hx hb dX0_set_4 (by decide) (fun _ => ?_) (fun hc => absurd (by decide) hc)
      exact ret (fl_ fr fa (rg_ p0 * 5) 5) _ _ _ _ dX0_set_30 (rs_fl fr fa (rg_ p0)) hP hD hS
    | succ n ih =>
      intro k hkk H locs ls hP hD hS hl
      have hk : k < 5 := by omega
      refine lv_iload_n hx hb dX0_set_2 rfl (lv_at hl 0 rfl) ?_
      refine lv_iconst (v := nI 5) hx hb dX0_set_3 (by decide) ?_
      refine lv_icmp_ge (tgt := 30) hx hb dX0_set_4 (by decide) (fun hc => absurd hc (lq k hk)) (fun _ => ?_)
      refine lv_aload_n hx hb dX0_set_7 rfl (lv_at hl 1 rfl) ?_
      refine va_get (D := D) (ci := 0) (v := .ref qr) (C := RX0) (T := TX0) (N := 7) hx hb hts in_X0 hown hK hP 0 rfl rfl 0 (by decide) (hts _ q40) (fun _ h9 => h9) rfl dX0_set_8 ?_
      refine lv_iload_n hx hb dX0_set_11 rfl (lv_at hl 2 rfl) ?_
      refine cs_i (v := nI (rg_ p0 * 5)) (n := 1) (As := [.int p0]) (rest := [.ref qr]) hx hb hml hown hts hK (m0_at l D cA p0) (lw_S q79 q80 q11 q81) (by decide +kernel) rfl ⟨rfl, rfl⟩ ⟨Nat.le_of_ble_eq_true rfl, Nat.le_of_ble_eq_true rfl⟩ ⟨Nat.zero_le _, Nat.zero_le _⟩ hP hD hS hA hl.1 rfl (Nat.le_of_ble_eq_true rfl) dX0_set_12 (fun H locs hP hS => ?_)
      refine lv_iload_n hx hb dX0_set_15 rfl (lv_at hl 0 rfl) ?_
      refine lv_iadd hx hb dX0_set_16 ?_
      refine ti_ (nI (rg_ p0 * 5 + k)) (nI_add _ _) ?_
      refine lv_aload_n hx hb dX0_set_17 rfl (lv_at hl 1 rfl) ?_
      refine va_get (D := D) (ci := 0) (v := .ref qa) (C := RX0) (T := TX0) (N := 7) hx hb hts in_X0 hown hK hP 0 rfl rfl 3 (by decide) (hts _ q43) (fun _ h9 => h9) rfl dX0_set_18 ?_
      refine lv_iload_n hx hb dX0_set_21 rfl (lv_at hl 0 rfl) ?_
      refine la_ (v := fa k) hx hb hK hP 2 rfl k rfl (by omega) (by decide) rfl dX0_set_22 ?_
      refine st_ hx hb hK hP hD hS 1 rfl (rg_ p0 * 5 + k) rfl (by omega) (by decide) dX0_set_23 (fun g_1 H locs hg_1 hP hD hS => ?_)
      obtain rfl : g_1 = fl_ fr fa (rg_ p0 * 5) (k + 1) := hg_1
      have hP : va_P D wk_Cl [o0_ h0 qr qn qw qa qb qc qx, ar_ qr cA 20 (fl_ fr fa (rg_ p0 * 5) (k + 1)), ar_ qa cA 5 fa] H := hP
      have hD : va_D A [o0_ h0 qr qn qw qa qb qc qx, ar_ qr cA 20 (fl_ fr fa (rg_ p0 * 5) (k + 1)), ar_ qa cA 5 fa] := hD
      refine lv_iinc (v := nI (k + 1)) (lv' := [(2, .int (nI (k + 1))), (0, .ref h0), (1, .int p0)]) hx hb dX0_set_24 hl (k := 0) rfl (ii_1 _) (by decide) rfl (fun ls hl => ?_)
      refine lv_goto (tgt := 2) hx hb dX0_set_27 (by decide) ?_
      exact ih (k + 1) (by omega) _ _ _ hP hD hS (lv_sub hl [0, 1, 2] rfl)
  exact lp 5 0 rfl _ _ _ hP hD hS (lv_sub hl [0, 1, 2] rfl)
end
section
set_option maxHeartbeats 4000000 in
set_option maxRecDepth 100000 in
/-- reduce(): a holds the element of the ten words -/
theorem m0_reduce (l : Launch) (D : va_G) (cA : ClassId) (h0 qr qn qw qa qb qc qx : Nat) (fw fa : Nat → Int64) : MetV_ l yX0_reduce cX0_reduce 4 (rm_ 0 0) D cA [.ref h0] [o0_ h0 qr qn qw qa qb qc qx, ar_ qw cA 10 fw, ar_ qa cA 5 fa] (fun u : (Nat → Int64) × (Nat → Int64) => rp_ u.2 (wd_of 10 fw)) (fun u => [o0_ h0 qr qn qw qa qb qc qx, ar_ qw cA 10 u.1, ar_ qa cA 5 u.2]) := by
  refine metV_of (by decide) (Nat.le_of_ble_eq_true rfl) ?_
  intro p e s m below meth c A Q hx hb hml hown hts hK hA ret ls hP hD hl
  have hown : s.vm.findClass "Field283" = some m.cls := hown
  have hS : va_S A s.heap s.heap [] := va_S.rf
  have hl : lv_has ls 4 [(0, .ref h0)] := hl
  have lq : ∀ k, k < 5 → ¬ nI 5 ≤ nI k := by decide +kernel
  have rq : ∀ t, t < 5 → ¬ nI (9 - t) < nI 5 := by decide +kernel
  refine lv_bipush (v := nI 9) hx hb dX0_reduce_0 (by decide) ?_
  refine lv_istore_n (lv' := [(1, .int (nI 9)), (0, .ref h0)]) hx hb dX0_reduce_2 rfl hl (by decide) rfl (fun ls hl => ?_)
  have lp : ∀ (n t : Nat), t + n = 5 → ∀ (H : Heap) (locs : List Loc) (ls : Array Slot), va_P D wk_Cl [o0_ h0 qr qn qw qa qb qc qx, ar_ qw cA 10 (rd_lp fw t), ar_ qa cA 5 fa] H → va_D A [o0_ h0 qr qn qw qa qb qc qx, ar_ qw cA 10 (rd_lp fw t), ar_ qa cA 5 fa] → va_S A s.heap H locs → lv_has ls 4 [(1, .int (nI (9 - t))), (0, .ref h0)] → W p l e (rm_ 0 0) s m ([.ref h0] : List Value).toArray below meth c H locs 0 0 Q (F0 m 3 ls []) := by
    intro n
    induction n with
    | zero =>
      intro t ht H locs ls hP hD hS hl
      obtain rfl : t = 5 := by omega
      refine lv_iload_n hx hb dX0_reduce_3 rfl (lv_at hl 0 rfl) ?_
      refine lv_iconst (v := nI 5) hx hb dX0_reduce_4 (by decide) ?_
      refine lv_icmp_lt (tgt := 81) hx hb dX0_reduce_5 (by decide) (fun _ => ?_) (fun hc => absurd (by decide) hc)
      refine lv_aload_n hx hb dX0_reduce_81 rfl (lv_at hl 1 rfl) ?_
      refine va_get (D := D) (ci := 0) (v := .ref qw) (C := RX0) (T := TX0) (N := 7) hx hb hts in_X0 hown hK hP 0 rfl rfl 2 (by decide) (hts _ q42) (fun _ h9 => h9) rfl dX0_reduce_82 ?_
      refine lv_iconst (v := nI 4) hx hb dX0_reduce_85 (by decide) ?_
      refine la_ (v := (rd_lp fw 5) 4) hx hb hK hP 1 rfl 4 rfl (by decide) (by decide) rfl dX0_reduce_86 ?_
      refine lv_bipush (v := nI 27) hx hb dX0_reduce_87 (by decide) ?_
      refine lv_lushr (v := wd_sr ((rd_lp fw 5) 4) 27) hx hb dX0_reduce_89 (sh_r _ _ (by decide)) ?_
      refine lv_lstore_n (lv' := [(1, .long (wd_sr ((rd_lp fw 5) 4) 27)), (0, .ref h0)]) hx hb dX0_reduce_90 rfl hl (by decide) rfl (fun ls hl => ?_)
      refine lv_aload_n hx hb dX0_reduce_91 rfl (lv_at hl 1 rfl) ?_
      refine va_get (D := D) (ci := 0) (v := .ref qw) (C := RX0) (T := TX0) (N := 7) hx hb hts in_X0 hown hK hP 0 rfl rfl 2 (by decide) (hts _ q42) (fun _ h9 => h9) rfl dX0_reduce_92 ?_
      refine lv_iconst (v := nI 0) hx hb dX0_reduce_95 (by decide) ?_
      refine lv_dup2_11 hx hb dX0_reduce_96 rfl rfl ?_
      refine la_ (v := (rd_lp fw 5) 0) hx hb hK hP 1 rfl 0 rfl (by decide) (by decide) rfl dX0_reduce_97 ?_
      refine lv_lload_n hx hb dX0_reduce_98 rfl (lv_at hl 0 rfl) ?_
      refine lv_lload_n hx hb dX0_reduce_99 rfl (lv_at hl 0 rfl) ?_
      refine lv_iconst (v := nI 5) hx hb dX0_reduce_100 (by decide) ?_
      refine lv_lshl (v := wd_sl (wd_sr ((rd_lp fw 5) 4) 27) 5) hx hb dX0_reduce_101 (sh_l _ _ (by decide)) ?_
      refine lv_lxor hx hb dX0_reduce_102 ?_
      refine lv_lload_n hx hb dX0_reduce_103 rfl (lv_at hl 0 rfl) ?_
      refine lv_bipush (v := nI 7) hx hb dX0_reduce_104 (by decide) ?_
      refine lv_lshl (v := wd_sl (wd_sr ((rd_lp fw 5) 4) 27) 7) hx hb dX0_reduce_106 (sh_l _ _ (by decide)) ?_
      refine lv_lxor hx hb dX0_reduce_107 ?_
      refine lv_lload_n hx hb dX0_reduce_108 rfl (lv_at hl 0 rfl) ?_
      refine lv_bipush (v := nI 12) hx hb dX0_reduce_109 (by decide) ?_
      refine lv_lshl (v := wd_sl (wd_sr ((rd_lp fw 5) 4) 27) 12) hx hb dX0_reduce_111 (sh_l _ _ (by decide)) ?_
      refine lv_lxor hx hb dX0_reduce_112 ?_
      refine lv_lxor hx hb dX0_reduce_113 ?_
      refine st_ hx hb hK hP hD hS 1 rfl 0 rfl (by decide) (by decide) dX0_reduce_114 (fun g_1 H locs hg_1 hP hD hS => ?_)
      obtain rfl : g_1 = rd_t1 (rd_lp fw 5) := hg_1
      have hP : va_P D wk_Cl [o0_ h0 qr qn qw qa qb qc qx, ar_ qw cA 10 (rd_t1 (rd_lp fw 5)), ar_ qa cA 5 fa] H := hP
      have hD : va_D A [o0_ h0 qr qn qw qa qb qc qx, ar_ qw cA 10 (rd_t1 (rd_lp fw 5)), ar_ qa cA 5 fa] := hD
      refine lv_aload_n hx hb dX0_reduce_115 rfl (lv_at hl 1 rfl) ?_
      refine va_get (D := D) (ci := 0) (v := .ref qw) (C := RX0) (T := TX0) (N := 7) hx hb hts in_X0 hown hK hP 0 rfl rfl 2 (by decide) (hts _ q42) (fun _ h9 => h9) rfl dX0_reduce_116 ?_
      refine lv_iconst (v := nI 4) hx hb dX0_reduce_119 (by decide) ?_
      refine lv_dup2_11 hx hb dX0_reduce_120 rfl rfl ?_
      refine la_ (v := (rd_t1 (rd_lp fw 5)) 4) hx hb hK hP 1 rfl 4 rfl (by decide) (by decide) rfl dX0_reduce_121 ?_
      refine lv_ldc2 (v := 134217727) hx hb hown (hts _ q39) dX0_reduce_122 ?_
      refine lv_land hx hb dX0_reduce_125 ?_
      refine st_ hx hb hK hP hD hS 1 rfl 4 rfl (by decide) (by decide) dX0_reduce_126 (fun g_2 H locs hg_2 hP hD hS => ?_)
      obtain rfl : g_2 = rd_tl (rd_lp fw 5) := hg_2
      have hP : va_P D wk_Cl [o0_ h0 qr qn qw qa qb qc qx, ar_ qw cA 10 (rd_tl (rd_lp fw 5)), ar_ qa cA 5 fa] H := hP
      have hD : va_D A [o0_ h0 qr qn qw qa qb qc qx, ar_ qw cA 10 (rd_tl (rd_lp fw 5)), ar_ qa cA 5 fa] := hD
      refine lv_iconst (v := nI 0) hx hb dX0_reduce_127 (by decide) ?_
      refine lv_istore_n (lv' := [(3, .int (nI 0)), (1, .long (wd_sr ((rd_lp fw 5) 4) 27)), (0, .ref h0)]) hx hb dX0_reduce_128 rfl hl (by decide) rfl (fun ls hl => ?_)
      have l2 : ∀ (n k : Nat), k + n = 5 → ∀ (H : Heap) (locs : List Loc) (ls : Array Slot), va_P D wk_Cl [o0_ h0 qr qn qw qa qb qc qx, ar_ qw cA 10 (rd_tl (rd_lp fw 5)), ar_ qa cA 5 (f0_ fa (rd_tl (rd_lp fw 5)) k)] H → va_D A [o0_ h0 qr qn qw qa qb qc qx, ar_ qw cA 10 (rd_tl (rd_lp fw 5)), ar_ qa cA 5 (f0_ fa (rd_tl (rd_lp fw 5)) k)] → va_S A s.heap H locs → lv_has ls 4 [(3, .int (nI k)), (0, .ref h0)] → W p l e (rm_ 0 0) s m ([.ref h0] : List Value).toArray below meth c H locs 0 0 Q (F0 m 129 ls []) := by
        intro n
        induction n with
        | zero =>
          intro k hkk H locs ls hP hD hS hl
          obtain rfl : k = 5 := by omega
          refine lv_iload_n hx hb dX0_reduce_129 rfl (lv_at hl 0 rfl) ?_
          refine lv_iconst (v := nI 5) hx hb dX0_reduce_130 (by decide) ?_
          refine lv_icmp_ge (tgt := 152) hx hb dX0_reduce_131 (by decide) (fun _ => ?_) (fun hc => absurd (by decide) hc)
          exact ret ((rd_tl (rd_lp fw 5)), f0_ fa (rd_tl (rd_lp fw 5)) 5) _ _ _ _ dX0_reduce_152 (rp_congr (rd_rp fw) (fun k hk => f0_in fa (rd_tl (rd_lp fw 5)) 5 k hk)) hP hD hS
        | succ n ih =>
          intro k hkk H locs ls hP hD hS hl
          have hk : k < 5 := by omega
          refine lv_iload_n hx hb dX0_reduce_129 rfl (lv_at hl 0 rfl) ?_
          refine lv_iconst (v := nI 5) hx hb dX0_reduce_130 (by decide) ?_
          refine lv_icmp_ge (tgt := 152) hx hb dX0_reduce_131 (by decide) (fun hc => absurd hc (lq k hk)) (fun _ => ?_)
          refine lv_aload_n hx hb dX0_reduce_134 rfl (lv_at hl 1 rfl) ?_
          refine va_get (D := D) (ci := 0) (v := .ref qa) (C := RX0) (T := TX0) (N := 7) hx hb hts in_X0 hown hK hP 0 rfl rfl 3 (by decide) (hts _ q43) (fun _ h9 => h9) rfl dX0_reduce_135 ?_
          refine lv_iload_n hx hb dX0_reduce_138 rfl (lv_at hl 0 rfl) ?_
          refine lv_aload_n hx hb dX0_reduce_139 rfl (lv_at hl 1 rfl) ?_
          refine va_get (D := D) (ci := 0) (v := .ref qw) (C := RX0) (T := TX0) (N := 7) hx hb hts in_X0 hown hK hP 0 rfl rfl 2 (by decide) (hts _ q42) (fun _ h9 => h9) rfl dX0_reduce_140 ?_
          refine lv_iload_n hx hb dX0_reduce_143 rfl (lv_at hl 0 rfl) ?_
          refine la_ (v := (rd_tl (rd_lp fw 5)) k) hx hb hK hP 1 rfl k rfl (by omega) (by decide) rfl dX0_reduce_144 ?_
          refine st_ hx hb hK hP hD hS 2 rfl k rfl (by omega) (by decide) dX0_reduce_145 (fun g_3 H locs hg_3 hP hD hS => ?_)
          obtain rfl : g_3 = f0_ fa (rd_tl (rd_lp fw 5)) (k + 1) := hg_3
          have hP : va_P D wk_Cl [o0_ h0 qr qn qw qa qb qc qx, ar_ qw cA 10 (rd_tl (rd_lp fw 5)), ar_ qa cA 5 (f0_ fa (rd_tl (rd_lp fw 5)) (k + 1))] H := hP
          have hD : va_D A [o0_ h0 qr qn qw qa qb qc qx, ar_ qw cA 10 (rd_tl (rd_lp fw 5)), ar_ qa cA 5 (f0_ fa (rd_tl (rd_lp fw 5)) (k + 1))] := hD
          refine lv_iinc (v := nI (k + 1)) (lv' := [(3, .int (nI (k + 1))), (0, .ref h0)]) hx hb dX0_reduce_146 hl (k := 0) rfl (ii_1 _) (by decide) rfl (fun ls hl => ?_)
          refine lv_goto (tgt := 129) hx hb dX0_reduce_149 (by decide) ?_
          exact ih (k + 1) (by omega) _ _ _ hP hD hS (lv_sub hl [0, 1] rfl)
      exact l2 5 0 rfl _ _ _ hP hD hS (lv_sub hl [0, 2] rfl)
    | succ n ih =>
      intro t ht H locs ls hP hD hS hl
      have h5 : t < 5 := by omega
      refine lv_iload_n hx hb dX0_reduce_3 rfl (lv_at hl 0 rfl) ?_
      refine lv_iconst (v := nI 5) hx hb dX0_reduce_4 (by decide) ?_
      refine lv_icmp_lt (tgt := 81) hx hb dX0_reduce_5 (by decide) (fun hc => absurd hc (rq t h5)) (fun _ => ?_)
      refine lv_aload_n hx hb dX0_reduce_8 rfl (lv_at hl 1 rfl) ?_
      refine va_get (D := D) (ci := 0) (v := .ref qw) (C := RX0) (T := TX0) (N := 7) hx hb hts in_X0 hown hK hP 0 rfl rfl 2 (by decide) (hts _ q42) (fun _ h9 => h9) rfl dX0_reduce_9 ?_
      refine lv_iload_n hx hb dX0_reduce_12 rfl (lv_at hl 0 rfl) ?_
      refine la_ (v := (rd_lp fw t) (9 - t)) hx hb hK hP 1 rfl (9 - t) rfl (by omega) (by decide) rfl dX0_reduce_13 ?_
      refine lv_lstore_n (lv' := [(2, .long ((rd_lp fw t) (9 - t))), (1, .int (nI (9 - t))), (0, .ref h0)]) hx hb dX0_reduce_14 rfl hl (by decide) rfl (fun ls hl => ?_)
      refine lv_aload_n hx hb dX0_reduce_15 rfl (lv_at hl 2 rfl) ?_
      refine va_get (D := D) (ci := 0) (v := .ref qw) (C := RX0) (T := TX0) (N := 7) hx hb hts in_X0 hown hK hP 0 rfl rfl 2 (by decide) (hts _ q42) (fun _ h9 => h9) rfl dX0_reduce_16 ?_
      refine lv_iload_n hx hb dX0_reduce_19 rfl (lv_at hl 1 rfl) ?_
      refine lv_iconst (v := nI 5) hx hb dX0_reduce_20 (by decide) ?_
      refine lv_isub hx hb dX0_reduce_21 ?_
      refine ti_ (nI ((9 - t) - 5)) (pk_sub (by omega)) ?_
      refine lv_dup2_11 hx hb dX0_reduce_22 rfl rfl ?_
      refine la_ (v := (rd_lp fw t) ((9 - t) - 5)) hx hb hK hP 1 rfl ((9 - t) - 5) rfl (by omega) (by decide) rfl dX0_reduce_23 ?_
      refine lv_lload_n hx hb dX0_reduce_24 rfl (lv_at hl 0 rfl) ?_
      refine lv_bipush (v := nI 37) hx hb dX0_reduce_25 (by decide) ?_
      refine lv_lshl (v := wd_sl ((rd_lp fw t) (9 - t)) 37) hx hb dX0_reduce_27 (sh_l _ _ (by decide)) ?_
      refine lv_lload_n hx hb dX0_reduce_28 rfl (lv_at hl 0 rfl) ?_
      refine lv_bipush (v := nI 42) hx hb dX0_reduce_29 (by decide) ?_
      refine lv_lshl (v := wd_sl ((rd_lp fw t) (9 - t)) 42) hx hb dX0_reduce_31 (sh_l _ _ (by decide)) ?_
      refine lv_lxor hx hb dX0_reduce_32 ?_
      refine lv_lload_n hx hb dX0_reduce_33 rfl (lv_at hl 0 rfl) ?_
      refine lv_bipush (v := nI 44) hx hb dX0_reduce_34 (by decide) ?_
      refine lv_lshl (v := wd_sl ((rd_lp fw t) (9 - t)) 44) hx hb dX0_reduce_36 (sh_l _ _ (by decide)) ?_
      refine lv_lxor hx hb dX0_reduce_37 ?_
      refine lv_lload_n hx hb dX0_reduce_38 rfl (lv_at hl 0 rfl) ?_
      refine lv_bipush (v := nI 49) hx hb dX0_reduce_39 (by decide) ?_
      refine lv_lshl (v := wd_sl ((rd_lp fw t) (9 - t)) 49) hx hb dX0_reduce_41 (sh_l _ _ (by decide)) ?_
      refine lv_lxor hx hb dX0_reduce_42 ?_
      refine lv_lxor hx hb dX0_reduce_43 ?_
      refine st_ hx hb hK hP hD hS 1 rfl ((9 - t) - 5) rfl (by omega) (by decide) dX0_reduce_44 (fun g1 H locs hg1 hP hD hS => ?_)
      have hP : va_P D wk_Cl [o0_ h0 qr qn qw qa qb qc qx, ar_ qw cA 10 g1, ar_ qa cA 5 fa] H := hP
      have hD : va_D A [o0_ h0 qr qn qw qa qb qc qx, ar_ qw cA 10 g1, ar_ qa cA 5 fa] := hD
      refine lv_aload_n hx hb dX0_reduce_45 rfl (lv_at hl 2 rfl) ?_
      refine va_get (D := D) (ci := 0) (v := .ref qw) (C := RX0) (T := TX0) (N := 7) hx hb hts in_X0 hown hK hP 0 rfl rfl 2 (by decide) (hts _ q42) (fun _ h9 => h9) rfl dX0_reduce_46 ?_
      refine lv_iload_n hx hb dX0_reduce_49 rfl (lv_at hl 1 rfl) ?_
      refine lv_iconst (v := nI 4) hx hb dX0_reduce_50 (by decide) ?_
      refine lv_isub hx hb dX0_reduce_51 ?_
      refine ti_ (nI ((9 - t) - 4)) (pk_sub (by omega)) ?_
      refine lv_dup2_11 hx hb dX0_reduce_52 rfl rfl ?_
      refine la_ (v := g1 ((9 - t) - 4)) hx hb hK hP 1 rfl ((9 - t) - 4) rfl (by omega) (by decide) rfl dX0_reduce_53 ?_
      refine lv_lload_n hx hb dX0_reduce_54 rfl (lv_at hl 0 rfl) ?_
      refine lv_bipush (v := nI 27) hx hb dX0_reduce_55 (by decide) ?_
      refine lv_lushr (v := wd_sr ((rd_lp fw t) (9 - t)) 27) hx hb dX0_reduce_57 (sh_r _ _ (by decide)) ?_
      refine lv_lload_n hx hb dX0_reduce_58 rfl (lv_at hl 0 rfl) ?_
      refine lv_bipush (v := nI 22) hx hb dX0_reduce_59 (by decide) ?_
      refine lv_lushr (v := wd_sr ((rd_lp fw t) (9 - t)) 22) hx hb dX0_reduce_61 (sh_r _ _ (by decide)) ?_
      refine lv_lxor hx hb dX0_reduce_62 ?_
      refine lv_lload_n hx hb dX0_reduce_63 rfl (lv_at hl 0 rfl) ?_
      refine lv_bipush (v := nI 20) hx hb dX0_reduce_64 (by decide) ?_
      refine lv_lushr (v := wd_sr ((rd_lp fw t) (9 - t)) 20) hx hb dX0_reduce_66 (sh_r _ _ (by decide)) ?_
      refine lv_lxor hx hb dX0_reduce_67 ?_
      refine lv_lload_n hx hb dX0_reduce_68 rfl (lv_at hl 0 rfl) ?_
      refine lv_bipush (v := nI 15) hx hb dX0_reduce_69 (by decide) ?_
      refine lv_lushr (v := wd_sr ((rd_lp fw t) (9 - t)) 15) hx hb dX0_reduce_71 (sh_r _ _ (by decide)) ?_
      refine lv_lxor hx hb dX0_reduce_72 ?_
      refine lv_lxor hx hb dX0_reduce_73 ?_
      refine st_ hx hb hK hP hD hS 1 rfl ((9 - t) - 4) rfl (by omega) (by decide) dX0_reduce_74 (fun g2 H locs hg2 hP hD hS => ?_)
      obtain rfl : g2 = rd_lp fw (t + 1) := (by rw [hg2, hg1]; rfl)
      have hP : va_P D wk_Cl [o0_ h0 qr qn qw qa qb qc qx, ar_ qw cA 10 (rd_lp fw (t + 1)), ar_ qa cA 5 fa] H := hP
      have hD : va_D A [o0_ h0 qr qn qw qa qb qc qx, ar_ qw cA 10 (rd_lp fw (t + 1)), ar_ qa cA 5 fa] := hD
      refine lv_iinc (v := nI (9 - (t + 1))) (lv' := [(1, .int (nI (9 - (t + 1)))), (2, .long ((rd_lp fw t) (9 - t))), (0, .ref h0)]) hx hb dX0_reduce_75 hl (k := 1) rfl (ii_d (by omega)) (by decide) rfl (fun ls hl => ?_)
      refine lv_goto (tgt := 3) hx hb dX0_reduce_78 (by decide) ?_
      exact ih (t + 1) (by omega) _ _ _ hP hD hS (lv_sub hl [0, 2] rfl)
  exact lp 5 0 rfl _ _ _ hP hD hS (lv_sub hl [0, 1] rfl)
set_option maxHeartbeats 4000000 in
set_option maxRecDepth 100000 in
/-- twice(): a becomes its square -/
theorem m0_twice (l : Launch) (D : va_G) (cA : ClassId) (h0 qr qn qw qa qb qc qx : Nat) (fw fa : Nat → Int64) (va : gf_V) (hva : rp_ fa va) : MetV_ l yX0_twice cX0_twice 2 (rm_ 1 23) D cA [.ref h0] [o0_ h0 qr qn qw qa qb qc qx, ar_ qw cA 10 fw, ar_ qa cA 5 fa] (fun u : (Nat → Int64) × (Nat → Int64) => rp_ u.2 (gf_sq va)) (fun u => [o0_ h0 qr qn qw qa qb qc qx, ar_ qw cA 10 u.1, ar_ qa cA 5 u.2]) := by
  refine metV_of (by decide) (Nat.le_of_ble_eq_true rfl) ?_
  intro p e s m below meth c A Q hx hb hml hown hts hK hA ret ls hP hD hl
  have hown : s.vm.findClass "Field283" = some m.cls := hown
  have hS : va_S A s.heap s.heap [] := va_S.rf
  have hl : lv_has ls 2 [(0, .ref h0)] := hl
  have lq : ∀ k, k < 5 → ¬ nI 5 ≤ nI k := by decide +kernel
  refine lv_iconst (v := nI 0) hx hb dX0_twice_0 (by decide) ?_
  refine lv_istore_n (lv' := [(1, .int (nI 0)), (0, .ref h0)]) hx hb dX0_twice_1 rfl hl (by decide) rfl (fun ls hl => ?_)
  have lp : ∀ (n k : Nat), k + n = 5 → ∀ (H : Heap) (locs : List Loc) (ls : Array Slot), va_P D wk_Cl [o0_ h0 qr qn qw qa qb qc qx, ar_ qw cA 10 (tw_lp fa fw k), ar_ qa cA 5 fa] H → va_D A [o0_ h0 qr qn qw qa qb qc qx, ar_ qw cA 10 (tw_lp fa fw k), ar_ qa cA 5 fa] → va_S A s.heap H locs → lv_has ls 2 [(1, .int (nI k)), (0, .ref h0)] → W p l e (rm_ 1 23) s m ([.ref h0] : List Value).toArray below meth c H locs 0 0 Q (F0 m 2 ls []) := by
    intro n
    induction n with
    | zero =>
      intro k hkk H locs ls hP hD hS hl
      obtain rfl : k = 5 := by omega
      refine lv_iload_n hx hb dX0_twice_2 rfl (lv_at hl 0 rfl) ?_
      refine lv_iconst (v := nI 5) hx hb dX0_twice_3 (by decide) ?_
      refine lv_icmp_ge (tgt := 52) hx hb dX0_twice_4 (by decide) (fun _ => ?_) (fun hc => absurd (by decide) hc)
      refine lv_aload_n hx hb dX0_twice_52 rfl (lv_at hl 1 rfl) ?_
      refine cv_V (ci := 0) (n := 0) (As := []) (rest := []) (wr := []) (w2 := fun u : (Nat → Int64) × (Nat → Int64) => [o0_ h0 qr qn qw qa qb qc qx, ar_ qw cA 10 u.1, ar_ qa cA 5 u.2]) hx hb hml hown hts hK (m0_reduce l D cA h0 qr qn qw qa qb qc qx (tw_lp fa fw 5) fa) (lw_V q35 q37 qs1 q11 q38) (by decide +kernel) rfl ⟨rfl, rfl⟩ ⟨Nat.le_of_ble_eq_true rfl, Nat.le_of_ble_eq_true rfl⟩ ⟨Nat.zero_le _, Nat.zero_le _⟩ hP hD hS hA [0, 1, 2] [] [0, 1, 2] rfl rfl rfl rfl (by decide) (by decide) (by decide) (by decide) (fun _ => rfl) hl.1 rfl (Nat.le_of_ble_eq_true rfl) dX0_twice_53 (fun u H locs hu hP hD hS => ?_)
      obtain ⟨w1, a1⟩ := u
      have hP : va_P D wk_Cl [o0_ h0 qr qn qw qa qb qc qx, ar_ qw cA 10 w1, ar_ qa cA 5 a1] H := hP
      have hD : va_D A [o0_ h0 qr qn qw qa qb qc qx, ar_ qw cA 10 w1, ar_ qa cA 5 a1] := hD
      have hu : rp_ a1 (wd_of 10 (tw_lp fa fw 5)) := hu
      rw [tw_of, rp_of hva] at hu
      exact ret (w1, a1) _ _ _ _ dX0_twice_56 hu hP hD hS
    | succ n ih =>
      intro k hkk H locs ls hP hD hS hl
      have hk : k < 5 := by omega
      refine lv_iload_n hx hb dX0_twice_2 rfl (lv_at hl 0 rfl) ?_
      refine lv_iconst (v := nI 5) hx hb dX0_twice_3 (by decide) ?_
      refine lv_icmp_ge (tgt := 52) hx hb dX0_twice_4 (by decide) (fun hc => absurd hc (lq k hk)) (fun _ => ?_)
      refine lv_aload_n hx hb dX0_twice_7 rfl (lv_at hl 1 rfl) ?_
      refine va_get (D := D) (ci := 0) (v := .ref qw) (C := RX0) (T := TX0) (N := 7) hx hb hts in_X0 hown hK hP 0 rfl rfl 2 (by decide) (hts _ q42) (fun _ h9 => h9) rfl dX0_twice_8 ?_
      refine lv_iconst (v := nI 2) hx hb dX0_twice_11 (by decide) ?_
      refine lv_iload_n hx hb dX0_twice_12 rfl (lv_at hl 0 rfl) ?_
      refine lv_imul hx hb dX0_twice_13 ?_
      refine ti_ (nI (2 * k)) (pk_mul _ _) ?_
      refine lv_aload_n hx hb dX0_twice_14 rfl (lv_at hl 1 rfl) ?_
      refine va_get (D := D) (ci := 0) (v := .ref qa) (C := RX0) (T := TX0) (N := 7) hx hb hts in_X0 hown hK hP 0 rfl rfl 3 (by decide) (hts _ q43) (fun _ h9 => h9) rfl dX0_twice_15 ?_
      refine lv_iload_n hx hb dX0_twice_18 rfl (lv_at hl 0 rfl) ?_
      refine la_ (v := fa k) hx hb hK hP 2 rfl k rfl (by omega) (by decide) rfl dX0_twice_19 ?_
      refine cs_l (v := sp_f (fa k)) (n := 1) (As := [.long (fa k)]) (rest := [.int (nI (2 * k)), .ref qw]) hx hb hml hown hts hK (m0_spread l D cA (fa k)) (lw_S q26 q27 q11 q28) (by decide +kernel) rfl ⟨rfl, rfl⟩ ⟨Nat.le_of_ble_eq_true rfl, Nat.le_of_ble_eq_true rfl⟩ ⟨Nat.zero_le _, Nat.zero_le _⟩ hP hD hS hA hl.1 rfl (Nat.le_of_ble_eq_true rfl) dX0_twice_20 (fun H locs hP hS => ?_)
      refine st_ hx hb hK hP hD hS 1 rfl (2 * k) rfl (by omega) (by decide) dX0_twice_23 (fun g1 H locs hg1 hP hD hS => ?_)
      have hP : va_P D wk_Cl [o0_ h0 qr qn qw qa qb qc qx, ar_ qw cA 10 g1, ar_ qa cA 5 fa] H := hP
      have hD : va_D A [o0_ h0 qr qn qw qa qb qc qx, ar_ qw cA 10 g1, ar_ qa cA 5 fa] := hD
      refine lv_aload_n hx hb dX0_twice_24 rfl (lv_at hl 1 rfl) ?_
      refine va_get (D := D) (ci := 0) (v := .ref qw) (C := RX0) (T := TX0) (N := 7) hx hb hts in_X0 hown hK hP 0 rfl rfl 2 (by decide) (hts _ q42) (fun _ h9 => h9) rfl dX0_twice_25 ?_
      refine lv_iconst (v := nI 2) hx hb dX0_twice_28 (by decide) ?_
      refine lv_iload_n hx hb dX0_twice_29 rfl (lv_at hl 0 rfl) ?_
      refine lv_imul hx hb dX0_twice_30 ?_
      refine ti_ (nI (2 * k)) (pk_mul _ _) ?_
      refine lv_iconst (v := nI 1) hx hb dX0_twice_31 (by decide) ?_
      refine lv_iadd hx hb dX0_twice_32 ?_
      refine ti_ (nI (2 * k + 1)) (nI_add _ _) ?_
      refine lv_aload_n hx hb dX0_twice_33 rfl (lv_at hl 1 rfl) ?_
      refine va_get (D := D) (ci := 0) (v := .ref qa) (C := RX0) (T := TX0) (N := 7) hx hb hts in_X0 hown hK hP 0 rfl rfl 3 (by decide) (hts _ q43) (fun _ h9 => h9) rfl dX0_twice_34 ?_
      refine lv_iload_n hx hb dX0_twice_37 rfl (lv_at hl 0 rfl) ?_
      refine la_ (v := fa k) hx hb hK hP 2 rfl k rfl (by omega) (by decide) rfl dX0_twice_38 ?_
      refine lv_bipush (v := nI 32) hx hb dX0_twice_39 (by decide) ?_
      refine lv_lushr (v := wd_sr (fa k) 32) hx hb dX0_twice_41 (sh_r _ _ (by decide)) ?_
      refine cs_l (v := sp_f (wd_sr (fa k) 32)) (n := 1) (As := [.long (wd_sr (fa k) 32)]) (rest := [.int (nI (2 * k + 1)), .ref qw]) hx hb hml hown hts hK (m0_spread l D cA (wd_sr (fa k) 32)) (lw_S q26 q27 q11 q28) (by decide +kernel) rfl ⟨rfl, rfl⟩ ⟨Nat.le_of_ble_eq_true rfl, Nat.le_of_ble_eq_true rfl⟩ ⟨Nat.zero_le _, Nat.zero_le _⟩ hP hD hS hA hl.1 rfl (Nat.le_of_ble_eq_true rfl) dX0_twice_42 (fun H locs hP hS => ?_)
      refine st_ hx hb hK hP hD hS 1 rfl (2 * k + 1) rfl (by omega) (by decide) dX0_twice_45 (fun g2 H locs hg2 hP hD hS => ?_)
      obtain rfl : g2 = tw_lp fa fw (k + 1) := (by rw [hg2, hg1]; rfl)
      have hP : va_P D wk_Cl [o0_ h0 qr qn qw qa qb qc qx, ar_ qw cA 10 (tw_lp fa fw (k + 1)), ar_ qa cA 5 fa] H := hP
      have hD : va_D A [o0_ h0 qr qn qw qa qb qc qx, ar_ qw cA 10 (tw_lp fa fw (k + 1)), ar_ qa cA 5 fa] := hD
      refine lv_iinc (v := nI (k + 1)) (lv' := [(1, .int (nI (k + 1))), (0, .ref h0)]) hx hb dX0_twice_46 hl (k := 0) rfl (ii_1 _) (by decide) rfl (fun ls hl => ?_)
      refine lv_goto (tgt := 2) hx hb dX0_twice_49 (by decide) ?_
      exact ih (k + 1) (by omega) _ _ _ hP hD hS (lv_sub hl [0, 1] rfl)
  exact lp 5 0 rfl _ _ _ hP hD hS (lv_sub hl [0, 1] rfl)
set_option maxHeartbeats 4000000 in
set_option maxRecDepth 100000 in
/-- often(n): n squares -/
theorem m0_often (l : Launch) (D : va_G) (cA : ClassId) (h0 qr qn qw qa qb qc qx : Nat) (fw fa : Nat → Int64) (va : gf_V) (hva : rp_ fa va) (N : Nat) (hN : N < 2 ^ 31) : MetV_ l yX0_often cX0_often 3 (rm_ 2 44) D cA [.ref h0, .int (nI N)] [o0_ h0 qr qn qw qa qb qc qx, ar_ qw cA 10 fw, ar_ qa cA 5 fa] (fun u : (Nat → Int64) × (Nat → Int64) => rp_ u.2 (gf_sqn N va)) (fun u => [o0_ h0 qr qn qw qa qb qc qx, ar_ qw cA 10 u.1, ar_ qa cA 5 u.2]) := by
  refine metV_of (by decide) (Nat.le_of_ble_eq_true rfl) ?_
  intro p e s m below meth c A Q hx hb hml hown hts hK hA ret ls hP hD hl
  have hown : s.vm.findClass "Field283" = some m.cls := hown
  have hS : va_S A s.heap s.heap [] := va_S.rf
  have hl : lv_has ls 3 [(0, .ref h0), (1, .int (nI N))] := hl
  refine lv_iconst (v := nI 0) hx hb dX0_often_0 (by decide) ?_
  refine lv_istore_n (lv' := [(2, .int (nI 0)), (0, .ref h0), (1, .int (nI N))]) hx hb dX0_often_1 rfl hl (by decide) rfl (fun ls hl => ?_)
  have lp : ∀ (n k : Nat) (fw fa : Nat → Int64), k + n = N → rp_ fa (gf_sqn k va) → ∀ (H : Heap) (locs : List Loc) (ls : Array Slot), va_P D wk_Cl [o0_ h0 qr qn qw qa qb qc qx, ar_ qw cA 10 fw, ar_ qa cA 5 fa] H → va_D A [o0_ h0 qr qn qw qa qb qc qx, ar_ qw cA 10 fw, ar_ qa cA 5 fa] → va_S A s.heap H locs → lv_has ls 3 [(2, .int (nI k)), (0, .ref h0), (1, .int (nI N))] → W p l e (rm_ 2 44) s m ([.ref h0, .int (nI N)] : List Value).toArray below meth c H locs 0 0 Q (F0 m 2 ls []) := by
    intro n
    induction n with
    | zero =>
      intro k fw fa hk hu H locs ls hP hD hS hl
      have hkN : k = N := by omega
      refine lv_iload_n hx hb dX0_often_2 rfl (lv_at hl 0 rfl) ?_
      refine lv_iload_n hx hb dX0_often_3 rfl (lv_at hl 2 rfl) ?_
      refine lv_icmp_ge (tgt := 17) hx hb dX0_often_4 (by decide) (fun _ => ?_) (fun hc => absurd (nI_le (by omega) (by omega)) hc)
      rw [hkN] at hu
      exact ret (fw, fa) _ _ _ _ dX0_often_17 hu hP hD hS
    | succ n ih =>
      intro k fw fa hk hu H locs ls hP hD hS hl
      refine lv_iload_n hx hb dX0_often_2 rfl (lv_at hl 0 rfl) ?_
      refine lv_iload_n hx hb dX0_often_3 rfl (lv_at hl 2 rfl) ?_
      refine lv_icmp_ge (tgt := 17) hx hb dX0_often_4 (by decide) (fun hc => absurd hc (nI_ge (by omega) (by omega))) (fun _ => ?_)
      refine lv_aload_n hx hb dX0_often_7 rfl (lv_at hl 1 rfl) ?_
      refine cv_V (ci := 0) (n := 0) (As := []) (rest := []) (wr := []) (w2 := fun u : (Nat → Int64) × (Nat → Int64) => [o0_ h0 qr qn qw qa qb qc qx, ar_ qw cA 10 u.1, ar_ qa cA 5 u.2]) hx hb hml hown hts hK (m0_twice l D cA h0 qr qn qw qa qb qc qx fw fa _ hu) (lw_V q22 q24 qs0 q11 q25) (by decide +kernel) rfl ⟨rfl, rfl⟩ ⟨Nat.le_of_ble_eq_true rfl, Nat.le_of_ble_eq_true rfl⟩ ⟨Nat.zero_le _, Nat.zero_le _⟩ hP hD hS hA [0, 1, 2] [] [0, 1, 2] rfl rfl rfl rfl (by decide) (by decide) (by decide) (by decide) (fun _ => rfl) hl.1 rfl (Nat.le_of_ble_eq_true rfl) dX0_often_8 (fun u H locs hu hP hD hS => ?_)
      obtain ⟨w1, a1⟩ := u
      have hP : va_P D wk_Cl [o0_ h0 qr qn qw qa qb qc qx, ar_ qw cA 10 w1, ar_ qa cA 5 a1] H := hP
      have hD : va_D A [o0_ h0 qr qn qw qa qb qc qx, ar_ qw cA 10 w1, ar_ qa cA 5 a1] := hD
      refine lv_iinc (v := nI (k + 1)) (lv' := [(2, .int (nI (k + 1))), (0, .ref h0), (1, .int (nI N))]) hx hb dX0_often_11 hl (k := 0) rfl (ii_1 _) (by decide) rfl (fun ls hl => ?_)
      refine lv_goto (tgt := 2) hx hb dX0_often_14 (by decide) ?_
      exact ih (k + 1) w1 a1 (by omega) hu _ _ _ hP hD hS (lv_sub hl [0, 1, 2] rfl)
  exact lp N 0 fw fa (Nat.zero_add _) hva _ _ _ hP hD hS (lv_sub hl [0, 1, 2] rfl)
end
section
set_option maxHeartbeats 4000000 in
set_option maxRecDepth 100000 in
/-- times(y): a becomes a times y -/
theorem m0_times (l : Launch) (D : va_G) (cA : ClassId) (h0 qr qn qw qa qb qc qx : Nat) (qy : Nat) (fw fa fy : Nat → Int64) (va vy : gf_V) (hva : rp_ fa va) (hvy : rp_ fy vy) : MetV_ l yX0_times cX0_times 8 (rm_ 1 29) D cA [.ref h0, .ref qy] [o0_ h0 qr qn qw qa qb qc qx, ar_ qw cA 10 fw, ar_ qa cA 5 fa, ar_ qy cA 5 fy] (fun u : (Nat → Int64) × (Nat → Int64) => rp_ u.2 (gf_mul va vy)) (fun u => [o0_ h0 qr qn qw qa qb qc qx, ar_ qw cA 10 u.1, ar_ qa cA 5 u.2, ar_ qy cA 5 fy]) := by
  refine metV_of (by decide) (Nat.le_of_ble_eq_true rfl) ?_
  intro p e s m below meth c A Q hx hb hml hown hts hK hA ret ls hP hD hl
  have hown : s.vm.findClass "Field283" = some m.cls := hown
  have hS : va_S A s.heap s.heap [] := va_S.rf
  have hl : lv_has ls 8 [(0, .ref h0), (1, .ref qy)] := hl
  have lq : ∀ k, k < 5 → ¬ nI 5 ≤ nI k := by decide +kernel
  have lq10 : ∀ k, k < 10 → ¬ nI 10 ≤ nI k := by decide +kernel
  refine lv_iconst (v := nI 0) hx hb dX0_times_0 (by decide) ?_
  refine lv_istore_n (lv' := [(2, .int (nI 0)), (0, .ref h0), (1, .ref qy)]) hx hb dX0_times_1 rfl hl (by decide) rfl (fun ls hl => ?_)
  have lp : ∀ (n k : Nat), k + n = 10 → ∀ (H : Heap) (locs : List Loc) (ls : Array Slot), va_P D wk_Cl [o0_ h0 qr qn qw qa qb qc qx, ar_ qw cA 10 (f0_ fw (fun _ => 0) k), ar_ qa cA 5 fa, ar_ qy cA 5 fy] H → va_D A [o0_ h0 qr qn qw qa qb qc qx, ar_ qw cA 10 (f0_ fw (fun _ => 0) k), ar_ qa cA 5 fa, ar_ qy cA 5 fy] → va_S A s.heap H locs → lv_has ls 8 [(2, .int (nI k)), (0, .ref h0), (1, .ref qy)] → W p l e (rm_ 1 29) s m ([.ref h0, .ref qy] : List Value).toArray below meth c H locs 0 0 Q (F0 m 2 ls []) := by
    intro n
    induction n with
    | zero =>
      intro k hkk H locs ls hP hD hS hl
      obtain rfl : k = 10 := by omega
      refine lv_iload_n hx hb dX0_times_2 rfl (lv_at hl 0 rfl) ?_
      refine lv_bipush (v := nI 10) hx hb dX0_times_3 (by decide) ?_
      refine lv_icmp_ge (tgt := 21) hx hb dX0_times_5 (by decide) (fun _ => ?_) (fun hc => absurd (by decide) hc)
      refine lv_iconst (v := nI 0) hx hb dX0_times_21 (by decide) ?_
      refine lv_istore_n (lv' := [(2, .int (nI 0)), (0, .ref h0), (1, .ref qy)]) hx hb dX0_times_22 rfl hl (by decide) rfl (fun ls hl => ?_)
      have l2 : ∀ (ni i : Nat), i + ni = 5 → ∀ (H : Heap) (locs : List Loc) (ls : Array Slot), va_P D wk_Cl [o0_ h0 qr qn qw qa qb qc qx, ar_ qw cA 10 (tm_out fa fy (f0_ fw (fun _ => 0) 10) i), ar_ qa cA 5 fa, ar_ qy cA 5 fy] H → va_D A [o0_ h0 qr qn qw qa qb qc qx, ar_ qw cA 10 (tm_out fa fy (f0_ fw (fun _ => 0) 10) i), ar_ qa cA 5 fa, ar_ qy cA 5 fy] → va_S A s.heap H locs → lv_has ls 8 [(2, .int (nI i)), (0, .ref h0), (1, .ref qy)] → W p l e (rm_ 1 29) s m ([.ref h0, .ref qy] : List Value).toArray below meth c H locs 0 0 Q (F0 m 23 ls []) := by
        intro ni
        induction ni with
        | zero =>
          intro i hki H locs ls hP hD hS hl
          obtain rfl : i = 5 := by omega
          refine lv_iload_n hx hb dX0_times_23 rfl (lv_at hl 0 rfl) ?_
          refine lv_iconst (v := nI 5) hx hb dX0_times_24 (by decide) ?_
          refine lv_icmp_ge (tgt := 113) hx hb dX0_times_25 (by decide) (fun _ => ?_) (fun hc => absurd (by decide) hc)
          refine lv_aload_n hx hb dX0_times_113 rfl (lv_at hl 1 rfl) ?_
          refine cv_V (ci := 0) (n := 0) (As := []) (rest := []) (wr := [ar_ qy cA 5 fy]) (w2 := fun u : (Nat → Int64) × (Nat → Int64) => [o0_ h0 qr qn qw qa qb qc qx, ar_ qw cA 10 u.1, ar_ qa cA 5 u.2, ar_ qy cA 5 fy]) hx hb hml hown hts hK (m0_reduce l D cA h0 qr qn qw qa qb qc qx (tm_out fa fy (f0_ fw (fun _ => 0) 10) 5) fa) (lw_V q35 q37 qs1 q11 q38) (by decide +kernel) rfl ⟨rfl, rfl⟩ ⟨Nat.le_of_ble_eq_true rfl, Nat.le_of_ble_eq_true rfl⟩ ⟨Nat.zero_le _, Nat.zero_le _⟩ hP hD hS hA [0, 1, 2] [3] [1, 2, 3, 0] rfl rfl rfl rfl (by decide) (by decide) (by decide) (by decide) (fun _ => rfl) hl.1 rfl (Nat.le_of_ble_eq_true rfl) dX0_times_114 (fun u H locs hu hP hD hS => ?_)
          obtain ⟨w1, a1⟩ := u
          have hP : va_P D wk_Cl [o0_ h0 qr qn qw qa qb qc qx, ar_ qw cA 10 w1, ar_ qa cA 5 a1, ar_ qy cA 5 fy] H := hP
          have hD : va_D A [o0_ h0 qr qn qw qa qb qc qx, ar_ qw cA 10 w1, ar_ qa cA 5 a1, ar_ qy cA 5 fy] := hD
          have hu : rp_ a1 (wd_of 10 (tm_out fa fy (f0_ fw (fun _ => 0) 10) 5)) := hu
          rw [tm_out_of _ _ _ 5 (Nat.le_refl _), wd_of_0 10 (fun k hk => f0_in fw (fun _ => 0) 10 k hk), BitVec.zero_xor, rp_of hva, rp_of hvy] at hu
          exact ret (w1, a1) _ _ _ _ dX0_times_117 hu hP hD hS
        | succ ni ihi =>
          intro i hki H locs ls hP hD hS hl
          have hi : i < 5 := by omega
          refine lv_iload_n hx hb dX0_times_23 rfl (lv_at hl 0 rfl) ?_
          refine lv_iconst (v := nI 5) hx hb dX0_times_24 (by decide) ?_
          refine lv_icmp_ge (tgt := 113) hx hb dX0_times_25 (by decide) (fun hc => absurd hc (lq i hi)) (fun _ => ?_)
          refine lv_aload_n hx hb dX0_times_28 rfl (lv_at hl 1 rfl) ?_
          refine va_get (D := D) (ci := 0) (v := .ref qa) (C := RX0) (T := TX0) (N := 7) hx hb hts in_X0 hown hK hP 0 rfl rfl 3 (by decide) (hts _ q43) (fun _ h9 => h9) rfl dX0_times_29 ?_
          refine lv_iload_n hx hb dX0_times_32 rfl (lv_at hl 0 rfl) ?_
          refine la_ (v := fa i) hx hb hK hP 2 rfl i rfl (by omega) (by decide) rfl dX0_times_33 ?_
          refine lv_lstore_n (lv' := [(3, .long (fa i)), (2, .int (nI i)), (0, .ref h0), (1, .ref qy)]) hx hb dX0_times_34 rfl hl (by decide) rfl (fun ls hl => ?_)
          refine lv_lload_n hx hb dX0_times_35 rfl (lv_at hl 0 rfl) ?_
          refine cs_l (v := tu_f (fa i)) (n := 1) (As := [.long (fa i)]) (rest := []) hx hb hml hown hts hK (m0_turned l D cA (fa i)) (lw_S q107 q108 q11 q109) (by decide +kernel) rfl ⟨rfl, rfl⟩ ⟨Nat.le_of_ble_eq_true rfl, Nat.le_of_ble_eq_true rfl⟩ ⟨Nat.zero_le _, Nat.zero_le _⟩ hP hD hS hA hl.1 rfl (Nat.le_of_ble_eq_true rfl) dX0_times_36 (fun H locs hP hS => ?_)
          refine lv_lstore (lv' := [(5, .long (tu_f (fa i))), (3, .long (fa i)), (2, .int (nI i)), (0, .ref h0), (1, .ref qy)]) hx hb dX0_times_39 hl (by decide) rfl (fun ls hl => ?_)
          refine lv_iconst (v := nI 0) hx hb dX0_times_41 (by decide) ?_
          refine lv_istore (lv' := [(7, .int (nI 0)), (5, .long (tu_f (fa i))), (3, .long (fa i)), (2, .int (nI i)), (0, .ref h0), (1, .ref qy)]) hx hb dX0_times_42 hl (by decide) rfl (fun ls hl => ?_)
          have l3 : ∀ (nj j : Nat), j + nj = 5 → ∀ (H : Heap) (locs : List Loc) (ls : Array Slot), va_P D wk_Cl [o0_ h0 qr qn qw qa qb qc qx, ar_ qw cA 10 (tm_in (fa i) (tu_f (fa i)) fy i (tm_out fa fy (f0_ fw (fun _ => 0) 10) i) j), ar_ qa cA 5 fa, ar_ qy cA 5 fy] H → va_D A [o0_ h0 qr qn qw qa qb qc qx, ar_ qw cA 10 (tm_in (fa i) (tu_f (fa i)) fy i (tm_out fa fy (f0_ fw (fun _ => 0) 10) i) j), ar_ qa cA 5 fa, ar_ qy cA 5 fy] → va_S A s.heap H locs → lv_has ls 8 [(7, .int (nI j)), (5, .long (tu_f (fa i))), (3, .long (fa i)), (2, .int (nI i)), (0, .ref h0), (1, .ref qy)] → W p l e (rm_ 1 29) s m ([.ref h0, .ref qy] : List Value).toArray below meth c H locs 0 0 Q (F0 m 44 ls []) := by
            intro nj
            induction nj with
            | zero =>
              intro j hj H locs ls hP hD hS hl
              obtain rfl : j = 5 := by omega
              refine lv_iload hx hb dX0_times_44 (lv_at hl 0 rfl) ?_
              refine lv_iconst (v := nI 5) hx hb dX0_times_46 (by decide) ?_
              refine lv_icmp_ge (tgt := 107) hx hb dX0_times_47 (by decide) (fun _ => ?_) (fun hc => absurd (by decide) hc)
              refine lv_iinc (v := nI (i + 1)) (lv' := [(2, .int (nI (i + 1))), (7, .int (nI 5)), (5, .long (tu_f (fa i))), (3, .long (fa i)), (0, .ref h0), (1, .ref qy)]) hx hb dX0_times_107 hl (k := 3) rfl (ii_1 _) (by decide) rfl (fun ls hl => ?_)
              refine lv_goto (tgt := 23) hx hb dX0_times_110 (by decide) ?_
              exact ihi (i + 1) (by omega) _ _ _ hP hD hS (lv_sub hl [0, 4, 5] rfl)
            | succ nj ihj =>
              intro j hj H locs ls hP hD hS hl
              have hj5 : j < 5 := by omega
              refine lv_iload hx hb dX0_times_44 (lv_at hl 0 rfl) ?_
              refine lv_iconst (v := nI 5) hx hb dX0_times_46 (by decide) ?_
              refine lv_icmp_ge (tgt := 107) hx hb dX0_times_47 (by decide) (fun hc => absurd hc (lq j hj5)) (fun _ => ?_)
              refine lv_aload_n hx hb dX0_times_50 rfl (lv_at hl 4 rfl) ?_
              refine va_get (D := D) (ci := 0) (v := .ref qw) (C := RX0) (T := TX0) (N := 7) hx hb hts in_X0 hown hK hP 0 rfl rfl 2 (by decide) (hts _ q42) (fun _ h9 => h9) rfl dX0_times_51 ?_
              refine lv_iload_n hx hb dX0_times_54 rfl (lv_at hl 3 rfl) ?_
              refine lv_iload hx hb dX0_times_55 (lv_at hl 0 rfl) ?_
              refine lv_iadd hx hb dX0_times_57 ?_
              refine ti_ (nI (i + j)) (nI_add _ _) ?_
              refine lv_dup2_11 hx hb dX0_times_58 rfl rfl ?_
              refine la_ (v := (tm_in (fa i) (tu_f (fa i)) fy i (tm_out fa fy (f0_ fw (fun _ => 0) 10) i) j) (i + j)) hx hb hK hP 1 rfl (i + j) rfl (by omega) (by decide) rfl dX0_times_59 ?_
              refine lv_lload_n hx hb dX0_times_60 rfl (lv_at hl 2 rfl) ?_
              refine lv_aload_n hx hb dX0_times_61 rfl (lv_at hl 5 rfl) ?_
              refine lv_iload hx hb dX0_times_62 (lv_at hl 0 rfl) ?_
              refine la_ (v := fy j) hx hb hK hP 3 rfl j rfl (by omega) (by decide) rfl dX0_times_64 ?_
              refine cs_l (v := lo_f (fa i) (fy j)) (n := 2) (As := [.long (fa i), .long (fy j)]) (rest := [.long ((tm_in (fa i) (tu_f (fa i)) fy i (tm_out fa fy (f0_ fw (fun _ => 0) 10) i) j) (i + j)), .int (nI (i + j)), .ref qw]) hx hb hml hown hts hK (m0_low l D cA (fa i) (fy j)) (lw_S q111 q112 q11 q113) (by decide +kernel) rfl ⟨rfl, rfl⟩ ⟨Nat.le_of_ble_eq_true rfl, Nat.le_of_ble_eq_true rfl⟩ ⟨Nat.zero_le _, Nat.zero_le _⟩ hP hD hS hA hl.1 rfl (Nat.le_of_ble_eq_true rfl) dX0_times_65 (fun H locs hP hS => ?_)
              refine lv_lxor hx hb dX0_times_68 ?_
              refine st_ hx hb hK hP hD hS 1 rfl (i + j) rfl (by omega) (by decide) dX0_times_69 (fun g1 H locs hg1 hP hD hS => ?_)
              have hP : va_P D wk_Cl [o0_ h0 qr qn qw qa qb qc qx, ar_ qw cA 10 g1, ar_ qa cA 5 fa, ar_ qy cA 5 fy] H := hP
              have hD : va_D A [o0_ h0 qr qn qw qa qb qc qx, ar_ qw cA 10 g1, ar_ qa cA 5 fa, ar_ qy cA 5 fy] := hD
              refine lv_aload_n hx hb dX0_times_70 rfl (lv_at hl 4 rfl) ?_
              refine va_get (D := D) (ci := 0) (v := .ref qw) (C := RX0) (T := TX0) (N := 7) hx hb hts in_X0 hown hK hP 0 rfl rfl 2 (by decide) (hts _ q42) (fun _ h9 => h9) rfl dX0_times_71 ?_
              refine lv_iload_n hx hb dX0_times_74 rfl (lv_at hl 3 rfl) ?_
              refine lv_iload hx hb dX0_times_75 (lv_at hl 0 rfl) ?_
              refine lv_iadd hx hb dX0_times_77 ?_
              refine ti_ (nI (i + j)) (nI_add _ _) ?_
              refine lv_iconst (v := nI 1) hx hb dX0_times_78 (by decide) ?_
              refine lv_iadd hx hb dX0_times_79 ?_
              refine ti_ (nI (i + j + 1)) (nI_add _ _) ?_
              refine lv_dup2_11 hx hb dX0_times_80 rfl rfl ?_
              refine la_ (v := g1 (i + j + 1)) hx hb hK hP 1 rfl (i + j + 1) rfl (by omega) (by decide) rfl dX0_times_81 ?_
              refine lv_lload hx hb dX0_times_82 (lv_at hl 1 rfl) ?_
              refine lv_aload_n hx hb dX0_times_84 rfl (lv_at hl 5 rfl) ?_
              refine lv_iload hx hb dX0_times_85 (lv_at hl 0 rfl) ?_
              refine la_ (v := fy j) hx hb hK hP 3 rfl j rfl (by omega) (by decide) rfl dX0_times_87 ?_
              refine cs_l (v := tu_f (fy j)) (n := 1) (As := [.long (fy j)]) (rest := [.long (tu_f (fa i)), .long (g1 (i + j + 1)), .int (nI (i + j + 1)), .ref qw]) hx hb hml hown hts hK (m0_turned l D cA (fy j)) (lw_S q107 q108 q11 q109) (by decide +kernel) rfl ⟨rfl, rfl⟩ ⟨Nat.le_of_ble_eq_true rfl, Nat.le_of_ble_eq_true rfl⟩ ⟨Nat.zero_le _, Nat.zero_le _⟩ hP hD hS hA hl.1 rfl (Nat.le_of_ble_eq_true rfl) dX0_times_88 (fun H locs hP hS => ?_)
              refine cs_l (v := lo_f (tu_f (fa i)) (tu_f (fy j))) (n := 2) (As := [.long (tu_f (fa i)), .long (tu_f (fy j))]) (rest := [.long (g1 (i + j + 1)), .int (nI (i + j + 1)), .ref qw]) hx hb hml hown hts hK (m0_low l D cA (tu_f (fa i)) (tu_f (fy j))) (lw_S q111 q112 q11 q113) (by decide +kernel) rfl ⟨rfl, rfl⟩ ⟨Nat.le_of_ble_eq_true rfl, Nat.le_of_ble_eq_true rfl⟩ ⟨Nat.zero_le _, Nat.zero_le _⟩ hP hD hS hA hl.1 rfl (Nat.le_of_ble_eq_true rfl) dX0_times_91 (fun H locs hP hS => ?_)
              refine cs_l (v := tu_f (lo_f (tu_f (fa i)) (tu_f (fy j)))) (n := 1) (As := [.long (lo_f (tu_f (fa i)) (tu_f (fy j)))]) (rest := [.long (g1 (i + j + 1)), .int (nI (i + j + 1)), .ref qw]) hx hb hml hown hts hK (m0_turned l D cA (lo_f (tu_f (fa i)) (tu_f (fy j)))) (lw_S q107 q108 q11 q109) (by decide +kernel) rfl ⟨rfl, rfl⟩ ⟨Nat.le_of_ble_eq_true rfl, Nat.le_of_ble_eq_true rfl⟩ ⟨Nat.zero_le _, Nat.zero_le _⟩ hP hD hS hA hl.1 rfl (Nat.le_of_ble_eq_true rfl) dX0_times_94 (fun H locs hP hS => ?_)
              refine lv_iconst (v := nI 1) hx hb dX0_times_97 (by decide) ?_
              refine lv_lushr (v := wd_sr (tu_f (lo_f (tu_f (fa i)) (tu_f (fy j)))) 1) hx hb dX0_times_98 (sh_r _ _ (by decide)) ?_
              refine lv_lxor hx hb dX0_times_99 ?_
              refine st_ hx hb hK hP hD hS 1 rfl (i + j + 1) rfl (by omega) (by decide) dX0_times_100 (fun g2 H locs hg2 hP hD hS => ?_)
              obtain rfl : g2 = tm_in (fa i) (tu_f (fa i)) fy i (tm_out fa fy (f0_ fw (fun _ => 0) 10) i) (j + 1) := (by rw [hg2, hg1]; rfl)
              have hP : va_P D wk_Cl [o0_ h0 qr qn qw qa qb qc qx, ar_ qw cA 10 (tm_in (fa i) (tu_f (fa i)) fy i (tm_out fa fy (f0_ fw (fun _ => 0) 10) i) (j + 1)), ar_ qa cA 5 fa, ar_ qy cA 5 fy] H := hP
              have hD : va_D A [o0_ h0 qr qn qw qa qb qc qx, ar_ qw cA 10 (tm_in (fa i) (tu_f (fa i)) fy i (tm_out fa fy (f0_ fw (fun _ => 0) 10) i) (j + 1)), ar_ qa cA 5 fa, ar_ qy cA 5 fy] := hD
              refine lv_iinc (v := nI (j + 1)) (lv' := [(7, .int (nI (j + 1))), (5, .long (tu_f (fa i))), (3, .long (fa i)), (2, .int (nI i)), (0, .ref h0), (1, .ref qy)]) hx hb dX0_times_101 hl (k := 0) rfl (ii_1 _) (by decide) rfl (fun ls hl => ?_)
              refine lv_goto (tgt := 44) hx hb dX0_times_104 (by decide) ?_
              exact ihj (j + 1) (by omega) _ _ _ hP hD hS (lv_sub hl [0, 1, 2, 3, 4, 5] rfl)
          exact l3 5 0 rfl _ _ _ hP hD hS (lv_sub hl [0, 1, 2, 3, 4, 5] rfl)
      exact l2 5 0 rfl _ _ _ hP hD hS (lv_sub hl [0, 1, 2] rfl)
    | succ n ih =>
      intro k hkk H locs ls hP hD hS hl
      have hk : k < 10 := by omega
      refine lv_iload_n hx hb dX0_times_2 rfl (lv_at hl 0 rfl) ?_
      refine lv_bipush (v := nI 10) hx hb dX0_times_3 (by decide) ?_
      refine lv_icmp_ge (tgt := 21) hx hb dX0_times_5 (by decide) (fun hc => absurd hc (lq10 k hk)) (fun _ => ?_)
      refine lv_aload_n hx hb dX0_times_8 rfl (lv_at hl 1 rfl) ?_
      refine va_get (D := D) (ci := 0) (v := .ref qw) (C := RX0) (T := TX0) (N := 7) hx hb hts in_X0 hown hK hP 0 rfl rfl 2 (by decide) (hts _ q42) (fun _ h9 => h9) rfl dX0_times_9 ?_
      refine lv_iload_n hx hb dX0_times_12 rfl (lv_at hl 0 rfl) ?_
      refine lv_lconst (v := 0) hx hb dX0_times_13 (by decide) ?_
      refine st_ hx hb hK hP hD hS 1 rfl k rfl (by omega) (by decide) dX0_times_14 (fun g_3 H locs hg_3 hP hD hS => ?_)
      obtain rfl : g_3 = f0_ fw (fun _ => 0) (k + 1) := hg_3
      have hP : va_P D wk_Cl [o0_ h0 qr qn qw qa qb qc qx, ar_ qw cA 10 (f0_ fw (fun _ => 0) (k + 1)), ar_ qa cA 5 fa, ar_ qy cA 5 fy] H := hP
      have hD : va_D A [o0_ h0 qr qn qw qa qb qc qx, ar_ qw cA 10 (f0_ fw (fun _ => 0) (k + 1)), ar_ qa cA 5 fa, ar_ qy cA 5 fy] := hD
      refine lv_iinc (v := nI (k + 1)) (lv' := [(2, .int (nI (k + 1))), (0, .ref h0), (1, .ref qy)]) hx hb dX0_times_15 hl (k := 0) rfl (ii_1 _) (by decide) rfl (fun ls hl => ?_)
      refine lv_goto (tgt := 2) hx hb dX0_times_18 (by decide) ?_
      exact ih (k + 1) (by omega) _ _ _ hP hD hS (lv_sub hl [0, 1, 2] rfl)
  exact lp 10 0 rfl _ _ _ hP hD hS (lv_sub hl [0, 1, 2] rfl)
end
section
/-! SMALL FACTS for the classes' public methods -/
theorem li_lt (x : Int32) : li_ x < 5 := Nat.mod_lt _ (by decide)
theorem wi_lt (x : Int32) : wi_ x < 5 := Nat.mod_lt _ (by decide)
theorem gl_f0 {f h g : Nat → Int64} (hg : g = vp_updL (f0_ h f 5) 4 (f0_ h f 5 4 &&& 134217727)) : ∀ k, k < 5 → g k = vp_updL f 4 (f 4 &&& 134217727) k := by
  intro k hk
  rw [hg]
  by_cases e : k = 4
  · subst e
    rw [pk_uLs, pk_uLs, f0_in h f 5 4 (by decide)]
  · rw [pk_uLn e, pk_uLn e, f0_in h f 5 k hk]
theorem wa_1 {x : Int64} {q : Int32} (h : ¬ nI (q.toBitVec.toNat % 2) = 0) : (wd_sr x 32).toInt32 = wa_ x q := by
  unfold wa_
  have e : (q.toBitVec.toNat % 2 == 0) = false := by
    refine beq_eq_false_iff_ne.mpr (fun e => h ?_)
    rw [e]
    rfl
  rw [e]
  rfl
theorem wa_0 {x : Int64} {q : Int32} (h : nI (q.toBitVec.toNat % 2) = 0) : x.toInt32 = wa_ x q := by
  unfold wa_
  have e : q.toBitVec.toNat % 2 = 0 := (nI_eq (by omega) (by decide)).mp h
  rw [e]
  rfl
theorem rp_one {F : Nat → Int64} {v : gf_V} (h : rp_ F v) : rp_ (ms_fl F 0) (v ^^^ 1#283) := by
  have h2 := ms_flip h 0 (by decide)
  rw [BitVec.shiftLeft_zero] at h2
  exact h2
theorem rp_one' {F : Nat → Int64} {v : gf_V} (h : rp_ F v) : rp_ (vp_updL F 0 (F 0 ^^^ 1)) (v ^^^ 1#283) := by
  have h2 := rp_one h
  have e : wd_sl 1 0 = 1 := by decide +kernel
  unfold ms_fl at h2
  rw [show (0 : Nat) / 64 = 0 from rfl, show (0 : Nat) % 64 = 0 from rfl, e] at h2
  exact h2
-- is there a word that isn't nought
def sm_ (F : Nat → Int64) : Nat → Nat
  | 0 => 0
  | k + 1 => if sm_ F k = 0 ∧ F k = 0 then 0 else 1
theorem sm_le (F : Nat → Int64) (k : Nat) : sm_ F k ≤ 1 := by
  cases k with
  | zero => exact Nat.zero_le _
  | succ k =>
    show (if sm_ F k = 0 ∧ F k = 0 then 0 else 1) ≤ 1
    by_cases h : sm_ F k = 0 ∧ F k = 0
    · rw [if_pos h]; exact Nat.zero_le _
    · rw [if_neg h]; exact Nat.le_refl _
theorem sm_i (F : Nat → Int64) (k : Nat) : nI (sm_ F k) = 0 ↔ sm_ F k = 0 := nI_eq (Nat.lt_of_le_of_lt (sm_le F k) (by decide)) (by decide)
theorem sm_a {F : Nat → Int64} {k : Nat} (h : ¬ nI (sm_ F k) = 0) : nI 1 = nI (sm_ F (k + 1)) := by
  show nI 1 = nI (if sm_ F k = 0 ∧ F k = 0 then 0 else 1)
  rw [if_neg (fun e => h ((sm_i F k).mpr e.1))]
theorem lc_0 (x : Int64) : lg_cmp x 0 = 0 ↔ x = 0 := by
  unfold lg_cmp
  by_cases h : x > 0
  · rw [if_pos h]
    constructor
    · intro e; exact absurd e (by decide)
    · intro e; rw [e] at h; exact absurd h (by decide)
  · rw [if_neg h]
    by_cases e : x = 0
    · rw [if_pos e]; exact ⟨fun _ => e, fun _ => rfl⟩
    · rw [if_neg e]
      exact ⟨fun q => absurd q (by decide), fun q => absurd q e⟩
theorem sm_b {F : Nat → Int64} {k : Nat} (h2 : ¬ lg_cmp (F k) 0 = 0) : nI 1 = nI (sm_ F (k + 1)) := by
  show nI 1 = nI (if sm_ F k = 0 ∧ F k = 0 then 0 else 1)
  rw [if_neg (fun e => h2 ((lc_0 _).mpr e.2))]
theorem sm_c {F : Nat → Int64} {k : Nat} (h : nI (sm_ F k) = 0) (h2 : lg_cmp (F k) 0 = 0) : nI 0 = nI (sm_ F (k + 1)) := by
  show nI 0 = nI (if sm_ F k = 0 ∧ F k = 0 then 0 else 1)
  rw [if_pos ⟨(sm_i F k).mp h, (lc_0 _).mp h2⟩]
theorem sm_all (F : Nat → Int64) (n : Nat) : sm_ F n = 0 ↔ ∀ k, k < n → F k = 0 := by
  induction n with
  | zero => exact ⟨fun _ k hk => absurd hk (by omega), fun _ => rfl⟩
  | succ n ih =>
    show (if sm_ F n = 0 ∧ F n = 0 then 0 else 1) = 0 ↔ _
    constructor
    · intro h
      by_cases e : sm_ F n = 0 ∧ F n = 0
      · intro k hk
        by_cases a : k = n
        · rw [a]; exact e.2
        · exact ih.mp e.1 k (by omega)
      · rw [if_neg e] at h
        exact absurd h (by decide)
    · intro h
      rw [if_pos ⟨ih.mpr (fun k hk => h k (by omega)), h n (by omega)⟩]
theorem sm_rp {F : Nat → Int64} {x : gf_V} (h : rp_ F x) : sm_ F 5 = 0 ↔ x = 0#283 := by
  rw [sm_all]
  constructor
  · intro e
    have h2 : rp_ F 0#283 := rp_congr rp_0 (fun k hk => e k hk)
    rw [← rp_of h, rp_of h2]
  · intro e k hk
    rw [e] at h
    exact rp_inj h rp_0 k hk
-- what invert makes
def iv_ (x : gf_V) : gf_V := gf_sq (gf_T x 282)
def iv_r (x : gf_V) : Int32 := if x = 0#283 then 0 else 1
def iv_v (v : Nat → gf_V) (i : Nat) (x : gf_V) : Nat → gf_V := if x = 0#283 then v else up_ v i (iv_ x)
theorem dv_ (n : Nat) : 2 * (282 / 2 ^ (n + 1)) + 282 / 2 ^ n % 2 = 282 / 2 ^ n := by
  rw [Nat.pow_succ, ← Nat.div_div_eq_div_mul]
  omega
theorem dv_lt (n : Nat) : 282 / 2 ^ n < 2 ^ 31 := Nat.lt_of_le_of_lt (Nat.div_le_self _ _) (by decide)
theorem gf_T_dbl (x : gf_V) (n : Nat) : gf_mul (gf_sqn n (gf_T x n)) (gf_T x n) = gf_T x (2 * n) := by
  rw [Nat.two_mul, gf_T_add]
-- the trace
def tr_ (x : gf_V) : Int32 := nI (x.getLsbD 0 ^^ x.getLsbD 271).toNat
theorem tr_bit (y : Int64) : y.toInt32.toBitVec.toNat % 2 = (wd_g y 0).toNat := by
  have h : y.toInt32.toBitVec.getLsbD 0 = wd_g y 0 := by
    rw [Int64.toBitVec_toInt32, BitVec.getLsbD_signExtend]
    simp
    rfl
  rw [← h, ← BitVec.testBit_toNat, Nat.testBit_zero]
  have h2 : y.toInt32.toBitVec.toNat % 2 = 0 ∨ y.toInt32.toBitVec.toNat % 2 = 1 := by omega
  rcases h2 with e | e <;> rw [e] <;> rfl
theorem tr_eq (x : gf_V) : (rp_w x 0 ^^^ wd_sr (rp_w x 4) 15).toInt32 &&& nI 1 = tr_ x := by
  rw [pk_and _ 1 (by decide +kernel), show (2 : Nat) ^ 1 = 2 from rfl, tr_bit, wd_xor, wd_srg, rp_wg x 0 0 (by decide), rp_wg x 4 (15 + 0) (by decide)]
  rfl
theorem tr_model {F : Nat → Int64} {x : gf_V} (h : rp_ F (gf_b (x.getLsbD 0 ^^ x.getLsbD 271) 1#283)) : (F 0).toInt32 = tr_ x := by
  rw [rp_word h 0 (by decide)]
  unfold tr_
  cases (x.getLsbD 0 ^^ x.getLsbD 271) <;> decide +kernel
end
section
set_option maxHeartbeats 4000000 in
set_option maxRecDepth 100000 in
/-- line(at, a, b, c, d) -/
theorem m0_line (l : Launch) (D : va_G) (cA : ClassId) (h0 qr qn qw qa qb qc qx : Nat) (f1 f2 f3 f4 f5 f6 f7 : Nat → Int64) (v : Nat → gf_V) (hv : rgs_ f1 v) (p0 p1 p2 p3 p4 : Int32) : MetV_ l yX0_line cX0_line 7 (rm_ 1 21) D cA [.ref h0, .int p0, .int p1, .int p2, .int p3, .int p4] [o0_ h0 qr qn qw qa qb qc qx, ar_ qr cA 20 f1, ar_ qn cA 5 f2, ar_ qw cA 10 f3, ar_ qa cA 5 f4, ar_ qb cA 5 f5, ar_ qc cA 5 f6, ar_ qx cA 5 f7] (fun u : (Nat → Int64) × (Nat → Int64) × (Nat → Int64) × (Nat → Int64) × (Nat → Int64) × (Nat → Int64) × (Nat → Int64) => rgs_ u.1 v ∧ u.2.1 = (ln_ f2 p0 p1 p2 p3 p4) ∧ u.2.2.2.2.2.2 = f7) (fun u => [o0_ h0 qr qn qw qa qb qc qx, ar_ qr cA 20 u.1, ar_ qn cA 5 u.2.1, ar_ qw cA 10 u.2.2.1, ar_ qa cA 5 u.2.2.2.1, ar_ qb cA 5 u.2.2.2.2.1, ar_ qc cA 5 u.2.2.2.2.2.1, ar_ qx cA 5 u.2.2.2.2.2.2]) := by
  refine metV_of (by decide) (Nat.le_of_ble_eq_true rfl) ?_
  intro p e s m below meth c A Q hx hb hml hown hts hK hA ret ls hP hD hl
  have hown : s.vm.findClass "Field283" = some m.cls := hown
  have hS : va_S A s.heap s.heap [] := va_S.rf
  have hl : lv_has ls 7 [(0, .ref h0), (1, .int p0), (2, .int p1), (3, .int p2), (4, .int p3), (5, .int p4)] := hl
  have hli := li_lt p0
  refine lv_iload_n hx hb dX0_line_0 rfl (lv_at hl 1 rfl) ?_
  refine lv_ldc (v := 2147483647) hx hb hown (hts _ q67) dX0_line_1 ?_
  refine lv_iand hx hb dX0_line_3 ?_
  refine ti_ (nI (p0.toBitVec.toNat % 2147483648)) (pk_and p0 31 (by decide +kernel)) ?_
  refine lv_iconst (v := nI 5) hx hb dX0_line_4 (by decide) ?_
  refine lv_irem hx hb dX0_line_5 (by decide) ?_
  refine ti_ (nI (li_ p0)) (pk_rem (Nat.mod_lt _ (by decide)) (by decide) (by decide)) ?_
  refine lv_istore (lv' := [(6, .int (nI (li_ p0))), (0, .ref h0), (1, .int p0), (2, .int p1), (3, .int p2), (4, .int p3), (5, .int p4)]) hx hb dX0_line_6 hl (by decide) rfl (fun ls hl => ?_)
  refine lv_aload_n hx hb dX0_line_8 rfl (lv_at hl 1 rfl) ?_
  refine va_get (D := D) (ci := 0) (v := .ref qn) (C := RX0) (T := TX0) (N := 7) hx hb hts in_X0 hown hK hP 0 rfl rfl 1 (by decide) (hts _ q41) (fun _ h9 => h9) rfl dX0_line_9 ?_
  refine lv_iload hx hb dX0_line_12 (lv_at hl 0 rfl) ?_
  refine lv_iload_n hx hb dX0_line_14 rfl (lv_at hl 3 rfl) ?_
  refine lv_iload_n hx hb dX0_line_15 rfl (lv_at hl 4 rfl) ?_
  refine cs_l (v := bo_ p1 p2) (n := 2) (As := [.int p1, .int p2]) (rest := [.int (nI (li_ p0)), .ref qn]) hx hb hml hown hts hK (m0_both l D cA p1 p2) (lw_S q68 q69 q11 q70) (by decide +kernel) rfl ⟨rfl, rfl⟩ ⟨Nat.le_of_ble_eq_true rfl, Nat.le_of_ble_eq_true rfl⟩ ⟨Nat.zero_le _, Nat.zero_le _⟩ hP hD hS hA hl.1 rfl (Nat.le_of_ble_eq_true rfl) dX0_line_16 (fun H locs hP hS => ?_)
  refine st_ hx hb hK hP hD hS 2 rfl (li_ p0) rfl (by omega) (by decide) dX0_line_19 (fun g1 H locs hg1 hP hD hS => ?_)
  have hP : va_P D wk_Cl [o0_ h0 qr qn qw qa qb qc qx, ar_ qr cA 20 f1, ar_ qn cA 5 g1, ar_ qw cA 10 f3, ar_ qa cA 5 f4, ar_ qb cA 5 f5, ar_ qc cA 5 f6, ar_ qx cA 5 f7] H := hP
  have hD : va_D A [o0_ h0 qr qn qw qa qb qc qx, ar_ qr cA 20 f1, ar_ qn cA 5 g1, ar_ qw cA 10 f3, ar_ qa cA 5 f4, ar_ qb cA 5 f5, ar_ qc cA 5 f6, ar_ qx cA 5 f7] := hD
  refine lv_aload_n hx hb dX0_line_20 rfl (lv_at hl 1 rfl) ?_
  refine va_get (D := D) (ci := 0) (v := .ref qn) (C := RX0) (T := TX0) (N := 7) hx hb hts in_X0 hown hK hP 0 rfl rfl 1 (by decide) (hts _ q41) (fun _ h9 => h9) rfl dX0_line_21 ?_
  refine lv_iload hx hb dX0_line_24 (lv_at hl 0 rfl) ?_
  refine lv_iconst (v := nI 1) hx hb dX0_line_26 (by decide) ?_
  refine lv_iadd hx hb dX0_line_27 ?_
  refine ti_ (nI (li_ p0 + 1)) (nI_add _ _) ?_
  refine lv_iconst (v := nI 5) hx hb dX0_line_28 (by decide) ?_
  refine lv_irem hx hb dX0_line_29 (by decide) ?_
  refine ti_ (nI ((li_ p0 + 1) % 5)) (pk_rem (by omega) (by decide) (by decide)) ?_
  refine lv_iload hx hb dX0_line_30 (lv_at hl 5 rfl) ?_
  refine lv_iload hx hb dX0_line_32 (lv_at hl 6 rfl) ?_
  refine cs_l (v := bo_ p3 p4) (n := 2) (As := [.int p3, .int p4]) (rest := [.int (nI ((li_ p0 + 1) % 5)), .ref qn]) hx hb hml hown hts hK (m0_both l D cA p3 p4) (lw_S q68 q69 q11 q70) (by decide +kernel) rfl ⟨rfl, rfl⟩ ⟨Nat.le_of_ble_eq_true rfl, Nat.le_of_ble_eq_true rfl⟩ ⟨Nat.zero_le _, Nat.zero_le _⟩ hP hD hS hA hl.1 rfl (Nat.le_of_ble_eq_true rfl) dX0_line_34 (fun H locs hP hS => ?_)
  refine st_ hx hb hK hP hD hS 2 rfl ((li_ p0 + 1) % 5) rfl (by omega) (by decide) dX0_line_37 (fun g2 H locs hg2 hP hD hS => ?_)
  obtain rfl : g2 = ln_ f2 p0 p1 p2 p3 p4 := (by rw [hg2, hg1]; rfl)
  have hP : va_P D wk_Cl [o0_ h0 qr qn qw qa qb qc qx, ar_ qr cA 20 f1, ar_ qn cA 5 (ln_ f2 p0 p1 p2 p3 p4), ar_ qw cA 10 f3, ar_ qa cA 5 f4, ar_ qb cA 5 f5, ar_ qc cA 5 f6, ar_ qx cA 5 f7] H := hP
  have hD : va_D A [o0_ h0 qr qn qw qa qb qc qx, ar_ qr cA 20 f1, ar_ qn cA 5 (ln_ f2 p0 p1 p2 p3 p4), ar_ qw cA 10 f3, ar_ qa cA 5 f4, ar_ qb cA 5 f5, ar_ qc cA 5 f6, ar_ qx cA 5 f7] := hD
  exact ret (f1, ln_ f2 p0 p1 p2 p3 p4, f3, f4, f5, f6, f7) _ _ _ _ dX0_line_38 ⟨hv, rfl, rfl⟩ hP hD hS
set_option maxHeartbeats 4000000 in
set_option maxRecDepth 100000 in
/-- load(r) -/
theorem m0_load (l : Launch) (D : va_G) (cA : ClassId) (h0 qr qn qw qa qb qc qx : Nat) (f1 f2 f3 f4 f5 f6 f7 : Nat → Int64) (v : Nat → gf_V) (hv : rgs_ f1 v) (p0 : Int32) : MetV_ l yX0_load cX0_load 3 (rm_ 2 42) D cA [.ref h0, .int p0] [o0_ h0 qr qn qw qa qb qc qx, ar_ qr cA 20 f1, ar_ qn cA 5 f2, ar_ qw cA 10 f3, ar_ qa cA 5 f4, ar_ qb cA 5 f5, ar_ qc cA 5 f6, ar_ qx cA 5 f7] (fun u : (Nat → Int64) × (Nat → Int64) × (Nat → Int64) × (Nat → Int64) × (Nat → Int64) × (Nat → Int64) × (Nat → Int64) => rgs_ u.1 (up_ v (rg_ p0) (gl_ f2)) ∧ u.2.1 = f2 ∧ u.2.2.2.2.2.2 = f7) (fun u => [o0_ h0 qr qn qw qa qb qc qx, ar_ qr cA 20 u.1, ar_ qn cA 5 u.2.1, ar_ qw cA 10 u.2.2.1, ar_ qa cA 5 u.2.2.2.1, ar_ qb cA 5 u.2.2.2.2.1, ar_ qc cA 5 u.2.2.2.2.2.1, ar_ qx cA 5 u.2.2.2.2.2.2]) := by
  refine metV_of (by decide) (Nat.le_of_ble_eq_true rfl) ?_
  intro p e s m below meth c A Q hx hb hml hown hts hK hA ret ls hP hD hl
  have hown : s.vm.findClass "Field283" = some m.cls := hown
  have hS : va_S A s.heap s.heap [] := va_S.rf
  have hl : lv_has ls 3 [(0, .ref h0), (1, .int p0)] := hl
  have lq : ∀ k, k < 5 → ¬ nI 5 ≤ nI k := by decide +kernel
  refine lv_iconst (v := nI 0) hx hb dX0_load_0 (by decide) ?_
  refine lv_istore_n (lv' := [(2, .int (nI 0)), (0, .ref h0), (1, .int p0)]) hx hb dX0_load_1 rfl hl (by decide) rfl (fun ls hl => ?_)
  have lp : ∀ (n k : Nat), k + n = 5 → ∀ (H : Heap) (locs : List Loc) (ls : Array Slot), va_P D wk_Cl [o0_ h0 qr qn qw qa qb qc qx, ar_ qr cA 20 f1, ar_ qn cA 5 f2, ar_ qw cA 10 f3, ar_ qa cA 5 (f0_ f4 f2 k), ar_ qb cA 5 f5, ar_ qc cA 5 f6, ar_ qx cA 5 f7] H → va_D A [o0_ h0 qr qn qw qa qb qc qx, ar_ qr cA 20 f1, ar_ qn cA 5 f2, ar_ qw cA 10 f3, ar_ qa cA 5 (f0_ f4 f2 k), ar_ qb cA 5 f5, ar_ qc cA 5 f6, ar_ qx cA 5 f7] → va_S A s.heap H locs → lv_has ls 3 [(2, .int (nI k)), (0, .ref h0), (1, .int p0)] → W p l e (rm_ 2 42) s m ([.ref h0, .int p0] : List Value).toArray below meth c H locs 0 0 Q (F0 m 2 ls []) := by
    intro n
    induction n with
    | zero =>
      intro k hkk H locs ls hP hD hS hl
      obtain rfl : k = 5 := by omega
      refine lv_iload_n hx hb dX0_load_2 rfl (lv_at hl 0 rfl) ?_
      refine lv_iconst (v := nI 5) hx hb dX0_load_3 (by decide) ?_
      refine lv_icmp_ge (tgt := 25) hx hb dX0_load_4 (by decide) (fun _ => ?_) (fun hc => absurd (by decide) hc)
      refine lv_aload_n hx hb dX0_load_25 rfl (lv_at hl 1 rfl) ?_
      refine va_get (D := D) (ci := 0) (v := .ref qa) (C := RX0) (T := TX0) (N := 7) hx hb hts in_X0 hown hK hP 0 rfl rfl 3 (by decide) (hts _ q43) (fun _ h9 => h9) rfl dX0_load_26 ?_
      refine lv_iconst (v := nI 4) hx hb dX0_load_29 (by decide) ?_
      refine lv_dup2_11 hx hb dX0_load_30 rfl rfl ?_
      refine la_ (v := (f0_ f4 f2 5) 4) hx hb hK hP 4 rfl 4 rfl (by decide) (by decide) rfl dX0_load_31 ?_
      refine lv_ldc2 (v := 134217727) hx hb hown (hts _ q39) dX0_load_32 ?_
      refine lv_land hx hb dX0_load_35 ?_
      refine st_ hx hb hK hP hD hS 4 rfl 4 rfl (by decide) (by decide) dX0_load_36 (fun g1 H locs hg1 hP hD hS => ?_)
      have hP : va_P D wk_Cl [o0_ h0 qr qn qw qa qb qc qx, ar_ qr cA 20 f1, ar_ qn cA 5 f2, ar_ qw cA 10 f3, ar_ qa cA 5 g1, ar_ qb cA 5 f5, ar_ qc cA 5 f6, ar_ qx cA 5 f7] H := hP
      have hD : va_D A [o0_ h0 qr qn qw qa qb qc qx, ar_ qr cA 20 f1, ar_ qn cA 5 f2, ar_ qw cA 10 f3, ar_ qa cA 5 g1, ar_ qb cA 5 f5, ar_ qc cA 5 f6, ar_ qx cA 5 f7] := hD
      refine lv_aload_n hx hb dX0_load_37 rfl (lv_at hl 1 rfl) ?_
      refine lv_iload_n hx hb dX0_load_38 rfl (lv_at hl 2 rfl) ?_
      refine cv_V (ci := 0) (n := 1) (As := [.int p0]) (rest := []) (wr := [ar_ qn cA 5 f2, ar_ qw cA 10 f3, ar_ qb cA 5 f5, ar_ qc cA 5 f6, ar_ qx cA 5 f7]) (w2 := fun u : (Nat → Int64) => [o0_ h0 qr qn qw qa qb qc qx, ar_ qr cA 20 u, ar_ qn cA 5 f2, ar_ qw cA 10 f3, ar_ qa cA 5 g1, ar_ qb cA 5 f5, ar_ qc cA 5 f6, ar_ qx cA 5 f7]) hx hb hml hown hts hK (m0_set l D cA h0 qr qn qw qa qb qc qx f1 g1 p0) (lw_V q75 q77 qs2 q11 q78) (by decide +kernel) rfl ⟨rfl, rfl⟩ ⟨Nat.le_of_ble_eq_true rfl, Nat.le_of_ble_eq_true rfl⟩ ⟨Nat.zero_le _, Nat.zero_le _⟩ hP hD hS hA [0, 1, 4] [2, 3, 5, 6, 7] [5, 6, 0, 1, 7, 2, 3, 4] rfl rfl rfl rfl (by decide) (by decide) (by decide) (by decide) (fun _ => rfl) hl.1 rfl (Nat.le_of_ble_eq_true rfl) dX0_load_39 (fun r1 H locs hs hP hD hS => ?_)
      have hP : va_P D wk_Cl [o0_ h0 qr qn qw qa qb qc qx, ar_ qr cA 20 r1, ar_ qn cA 5 f2, ar_ qw cA 10 f3, ar_ qa cA 5 g1, ar_ qb cA 5 f5, ar_ qc cA 5 f6, ar_ qx cA 5 f7] H := hP
      have hD : va_D A [o0_ h0 qr qn qw qa qb qc qx, ar_ qr cA 20 r1, ar_ qn cA 5 f2, ar_ qw cA 10 f3, ar_ qa cA 5 g1, ar_ qb cA 5 f5, ar_ qc cA 5 f6, ar_ qx cA 5 f7] := hD
      exact ret (r1, f2, f3, g1, f5, f6, f7) _ _ _ _ dX0_load_42 ⟨by rw [hs]; exact rgs_set hv (gl_rp (gl_f0 hg1)) _, rfl, rfl⟩ hP hD hS
    | succ n ih =>
      intro k hkk H locs ls hP hD hS hl
      have hk : k < 5 := by omega
      refine lv_iload_n hx hb dX0_load_2 rfl (lv_at hl 0 rfl) ?_
      refine lv_iconst (v := nI 5) hx hb dX0_load_3 (by decide) ?_
      refine lv_icmp_ge (tgt := 25) hx hb dX0_load_4 (by decide) (fun hc => absurd hc (lq k hk)) (fun _ => ?_)
      refine lv_aload_n hx hb dX0_load_7 rfl (lv_at hl 1 rfl) ?_
      refine va_get (D := D) (ci := 0) (v := .ref qa) (C := RX0) (T := TX0) (N := 7) hx hb hts in_X0 hown hK hP 0 rfl rfl 3 (by decide) (hts _ q43) (fun _ h9 => h9) rfl dX0_load_8 ?_
      refine lv_iload_n hx hb dX0_load_11 rfl (lv_at hl 0 rfl) ?_
      refine lv_aload_n hx hb dX0_load_12 rfl (lv_at hl 1 rfl) ?_
      refine va_get (D := D) (ci := 0) (v := .ref qn) (C := RX0) (T := TX0) (N := 7) hx hb hts in_X0 hown hK hP 0 rfl rfl 1 (by decide) (hts _ q41) (fun _ h9 => h9) rfl dX0_load_13 ?_
      refine lv_iload_n hx hb dX0_load_16 rfl (lv_at hl 0 rfl) ?_
      refine la_ (v := f2 k) hx hb hK hP 2 rfl k rfl (by omega) (by decide) rfl dX0_load_17 ?_
      refine st_ hx hb hK hP hD hS 4 rfl k rfl (by omega) (by decide) dX0_load_18 (fun g_2 H locs hg_2 hP hD hS => ?_)
      obtain rfl : g_2 = f0_ f4 f2 (k + 1) := hg_2
      have hP : va_P D wk_Cl [o0_ h0 qr qn qw qa qb qc qx, ar_ qr cA 20 f1, ar_ qn cA 5 f2, ar_ qw cA 10 f3, ar_ qa cA 5 (f0_ f4 f2 (k + 1)), ar_ qb cA 5 f5, ar_ qc cA 5 f6, ar_ qx cA 5 f7] H := hP
      have hD : va_D A [o0_ h0 qr qn qw qa qb qc qx, ar_ qr cA 20 f1, ar_ qn cA 5 f2, ar_ qw cA 10 f3, ar_ qa cA 5 (f0_ f4 f2 (k + 1)), ar_ qb cA 5 f5, ar_ qc cA 5 f6, ar_ qx cA 5 f7] := hD
      refine lv_iinc (v := nI (k + 1)) (lv' := [(2, .int (nI (k + 1))), (0, .ref h0), (1, .int p0)]) hx hb dX0_load_19 hl (k := 0) rfl (ii_1 _) (by decide) rfl (fun ls hl => ?_)
      refine lv_goto (tgt := 2) hx hb dX0_load_22 (by decide) ?_
      exact ih (k + 1) (by omega) _ _ _ hP hD hS (lv_sub hl [0, 1, 2] rfl)
  exact lp 5 0 rfl _ _ _ hP hD hS (lv_sub hl [0, 1, 2] rfl)
set_option maxHeartbeats 4000000 in
set_option maxRecDepth 100000 in
/-- word(r, at) -/
theorem m0_word (l : Launch) (D : va_G) (cA : ClassId) (h0 qr qn qw qa qb qc qx : Nat) (f1 f2 f3 f4 f5 f6 f7 : Nat → Int64) (v : Nat → gf_V) (hv : rgs_ f1 v) (p0 p1 : Int32) : MetI_ l yX0_word cX0_word 5 .int (rm_ 1 20) D cA [.ref h0, .int p0, .int p1] [o0_ h0 qr qn qw qa qb qc qx, ar_ qr cA 20 f1, ar_ qn cA 5 f2, ar_ qw cA 10 f3, ar_ qa cA 5 f4, ar_ qb cA 5 f5, ar_ qc cA 5 f6, ar_ qx cA 5 f7] (fun (r : Int32) (_ : Unit) => r = wa_ (rp_w (v (rg_ p0)) (wi_ p1)) p1) (fun _ => [o0_ h0 qr qn qw qa qb qc qx, ar_ qr cA 20 f1, ar_ qn cA 5 f2, ar_ qw cA 10 f3, ar_ qa cA 5 f4, ar_ qb cA 5 f5, ar_ qc cA 5 f6, ar_ qx cA 5 f7]) := by
  refine metI_of (by decide) (Nat.le_of_ble_eq_true rfl) ?_
  intro p e s m below meth c A Q hx hb hml hown hts hK hA ret ls hP hD hl
  have hown : s.vm.findClass "Field283" = some m.cls := hown
  have hS : va_S A s.heap s.heap [] := va_S.rf
  have hl : lv_has ls 5 [(0, .ref h0), (1, .int p0), (2, .int p1)] := hl
  have hrg := rg_lt p0
  have hwi := wi_lt p1
  refine lv_aload_n hx hb dX0_word_0 rfl (lv_at hl 0 rfl) ?_
  refine va_get (D := D) (ci := 0) (v := .ref qr) (C := RX0) (T := TX0) (N := 7) hx hb hts in_X0 hown hK hP 0 rfl rfl 0 (by decide) (hts _ q40) (fun _ h9 => h9) rfl dX0_word_1 ?_
  refine lv_iload_n hx hb dX0_word_4 rfl (lv_at hl 1 rfl) ?_
  refine cs_i (v := nI (rg_ p0 * 5)) (n := 1) (As := [.int p0]) (rest := [.ref qr]) hx hb hml hown hts hK (m0_at l D cA p0) (lw_S q79 q80 q11 q81) (by decide +kernel) rfl ⟨rfl, rfl⟩ ⟨Nat.le_of_ble_eq_true rfl, Nat.le_of_ble_eq_true rfl⟩ ⟨Nat.zero_le _, Nat.zero_le _⟩ hP hD hS hA hl.1 rfl (Nat.le_of_ble_eq_true rfl) dX0_word_5 (fun H locs hP hS => ?_)
  refine lv_iload_n hx hb dX0_word_8 rfl (lv_at hl 2 rfl) ?_
  refine lv_iconst (v := nI 1) hx hb dX0_word_9 (by decide) ?_
  refine lv_ishr hx hb dX0_word_10 ?_
  refine lv_ldc (v := 1073741823) hx hb hown (hts _ q86) dX0_word_11 ?_
  refine lv_iand hx hb dX0_word_13 ?_
  refine ti_ (nI ((p1 >>> (nI 1 &&& 31)).toBitVec.toNat % 1073741824)) (pk_and _ 30 (by decide +kernel)) ?_
  refine lv_iconst (v := nI 5) hx hb dX0_word_14 (by decide) ?_
  refine lv_irem hx hb dX0_word_15 (by decide) ?_
  refine ti_ (nI (wi_ p1)) (pk_rem (Nat.lt_trans (Nat.mod_lt _ (by decide)) (by decide)) (by decide) (by decide)) ?_
  refine lv_iadd hx hb dX0_word_16 ?_
  refine ti_ (nI (rg_ p0 * 5 + (wi_ p1))) (nI_add _ _) ?_
  refine la_ (v := rp_w (v (rg_ p0)) (wi_ p1)) hx hb hK hP 1 rfl (rg_ p0 * 5 + (wi_ p1)) rfl (by omega) (by decide) (rp_word (hv (rg_ p0) (rg_lt p0)) (wi_ p1) (wi_lt p1)) dX0_word_17 ?_
  refine lv_lstore_n (lv' := [(3, .long (rp_w (v (rg_ p0)) (wi_ p1))), (0, .ref h0), (1, .int p0), (2, .int p1)]) hx hb dX0_word_18 rfl hl (by decide) rfl (fun ls hl => ?_)
  refine lv_iload_n hx hb dX0_word_19 rfl (lv_at hl 3 rfl) ?_
  refine lv_iconst (v := nI 1) hx hb dX0_word_20 (by decide) ?_
  refine lv_iand hx hb dX0_word_21 ?_
  refine ti_ (nI (p1.toBitVec.toNat % 2)) (pk_and _ 1 (by decide +kernel)) ?_
  refine lv_if_ne (tgt := 29) hx hb dX0_word_22 (by decide) (fun hc => ?_) (fun hc => ?_)
  · refine lv_lload_n hx hb dX0_word_29 rfl (lv_at hl 0 rfl) ?_
    refine lv_bipush (v := nI 32) hx hb dX0_word_30 (by decide) ?_
    refine lv_lushr (v := wd_sr (rp_w (v (rg_ p0)) (wi_ p1)) 32) hx hb dX0_word_32 (sh_r _ _ (by decide)) ?_
    refine lv_l2i (v := (wd_sr (rp_w (v (rg_ p0)) (wi_ p1)) 32).toInt32) hx hb dX0_word_33 rfl ?_
    exact ret _ () _ _ _ _ dX0_word_34 (vp_nar_int _) (wa_1 hc) hP hD hS
  · refine lv_lload_n hx hb dX0_word_25 rfl (lv_at hl 0 rfl) ?_
    refine lv_goto (tgt := 33) hx hb dX0_word_26 (by decide) ?_
    refine lv_l2i (v := (rp_w (v (rg_ p0)) (wi_ p1)).toInt32) hx hb dX0_word_33 rfl ?_
    exact ret _ () _ _ _ _ dX0_word_34 (vp_nar_int _) (wa_0 hc) hP hD hS
set_option maxHeartbeats 4000000 in
set_option maxRecDepth 100000 in
/-- add(r, p, q) -/
theorem m0_add (l : Launch) (D : va_G) (cA : ClassId) (h0 qr qn qw qa qb qc qx : Nat) (f1 f2 f3 f4 f5 f6 f7 : Nat → Int64) (v : Nat → gf_V) (hv : rgs_ f1 v) (p0 p1 p2 : Int32) : MetV_ l yX0_add cX0_add 5 (rm_ 2 43) D cA [.ref h0, .int p0, .int p1, .int p2] [o0_ h0 qr qn qw qa qb qc qx, ar_ qr cA 20 f1, ar_ qn cA 5 f2, ar_ qw cA 10 f3, ar_ qa cA 5 f4, ar_ qb cA 5 f5, ar_ qc cA 5 f6, ar_ qx cA 5 f7] (fun u : (Nat → Int64) × (Nat → Int64) × (Nat → Int64) × (Nat → Int64) × (Nat → Int64) × (Nat → Int64) × (Nat → Int64) => rgs_ u.1 (up_ v (rg_ p0) (v (rg_ p1) ^^^ v (rg_ p2))) ∧ u.2.1 = f2 ∧ u.2.2.2.2.2.2 = f7) (fun u => [o0_ h0 qr qn qw qa qb qc qx, ar_ qr cA 20 u.1, ar_ qn cA 5 u.2.1, ar_ qw cA 10 u.2.2.1, ar_ qa cA 5 u.2.2.2.1, ar_ qb cA 5 u.2.2.2.2.1, ar_ qc cA 5 u.2.2.2.2.2.1, ar_ qx cA 5 u.2.2.2.2.2.2]) := by
  refine metV_of (by decide) (Nat.le_of_ble_eq_true rfl) ?_
  intro p e s m below meth c A Q hx hb hml hown hts hK hA ret ls hP hD hl
  have hown : s.vm.findClass "Field283" = some m.cls := hown
  have hS : va_S A s.heap s.heap [] := va_S.rf
  have hl : lv_has ls 5 [(0, .ref h0), (1, .int p0), (2, .int p1), (3, .int p2)] := hl
  have lq : ∀ k, k < 5 → ¬ nI 5 ≤ nI k := by decide +kernel
  refine lv_aload_n hx hb dX0_add_0 rfl (lv_at hl 0 rfl) ?_
  refine lv_aload_n hx hb dX0_add_1 rfl (lv_at hl 0 rfl) ?_
  refine va_get (D := D) (ci := 0) (v := .ref qa) (C := RX0) (T := TX0) (N := 7) hx hb hts in_X0 hown hK hP 0 rfl rfl 3 (by decide) (hts _ q43) (fun _ h9 => h9) rfl dX0_add_2 ?_
  refine lv_iload_n hx hb dX0_add_5 rfl (lv_at hl 2 rfl) ?_
  refine cv_V (ci := 0) (n := 2) (As := [.ref qa, .int p1]) (rest := []) (wr := [ar_ qn cA 5 f2, ar_ qw cA 10 f3, ar_ qb cA 5 f5, ar_ qc cA 5 f6, ar_ qx cA 5 f7]) (w2 := fun u : (Nat → Int64) => [o0_ h0 qr qn qw qa qb qc qx, ar_ qr cA 20 f1, ar_ qn cA 5 f2, ar_ qw cA 10 f3, ar_ qa cA 5 u, ar_ qb cA 5 f5, ar_ qc cA 5 f6, ar_ qx cA 5 f7]) hx hb hml hown hts hK (m0_get l D cA h0 qr qn qw qa qb qc qx qa f1 f4 p1) (lw_V q91 q93 qs3 q11 q94) (by decide +kernel) rfl ⟨rfl, rfl⟩ ⟨Nat.le_of_ble_eq_true rfl, Nat.le_of_ble_eq_true rfl⟩ ⟨Nat.zero_le _, Nat.zero_le _⟩ hP hD hS hA [0, 1, 4] [2, 3, 5, 6, 7] [5, 6, 0, 1, 7, 2, 3, 4] rfl rfl rfl rfl (by decide) (by decide) (by decide) (by decide) (fun _ => rfl) hl.1 rfl (Nat.le_of_ble_eq_true rfl) dX0_add_6 (fun a1 H locs h1 hP hD hS => ?_)
  have hP : va_P D wk_Cl [o0_ h0 qr qn qw qa qb qc qx, ar_ qr cA 20 f1, ar_ qn cA 5 f2, ar_ qw cA 10 f3, ar_ qa cA 5 a1, ar_ qb cA 5 f5, ar_ qc cA 5 f6, ar_ qx cA 5 f7] H := hP
  have hD : va_D A [o0_ h0 qr qn qw qa qb qc qx, ar_ qr cA 20 f1, ar_ qn cA 5 f2, ar_ qw cA 10 f3, ar_ qa cA 5 a1, ar_ qb cA 5 f5, ar_ qc cA 5 f6, ar_ qx cA 5 f7] := hD
  refine lv_aload_n hx hb dX0_add_9 rfl (lv_at hl 0 rfl) ?_
  refine lv_aload_n hx hb dX0_add_10 rfl (lv_at hl 0 rfl) ?_
  refine va_get (D := D) (ci := 0) (v := .ref qb) (C := RX0) (T := TX0) (N := 7) hx hb hts in_X0 hown hK hP 0 rfl rfl 4 (by decide) (hts _ q44) (fun _ h9 => h9) rfl dX0_add_11 ?_
  refine lv_iload_n hx hb dX0_add_14 rfl (lv_at hl 3 rfl) ?_
  refine cv_V (ci := 0) (n := 2) (As := [.ref qb, .int p2]) (rest := []) (wr := [ar_ qn cA 5 f2, ar_ qw cA 10 f3, ar_ qa cA 5 a1, ar_ qc cA 5 f6, ar_ qx cA 5 f7]) (w2 := fun u : (Nat → Int64) => [o0_ h0 qr qn qw qa qb qc qx, ar_ qr cA 20 f1, ar_ qn cA 5 f2, ar_ qw cA 10 f3, ar_ qa cA 5 a1, ar_ qb cA 5 u, ar_ qc cA 5 f6, ar_ qx cA 5 f7]) hx hb hml hown hts hK (m0_get l D cA h0 qr qn qw qa qb qc qx qb f1 f5 p2) (lw_V q91 q93 qs3 q11 q94) (by decide +kernel) rfl ⟨rfl, rfl⟩ ⟨Nat.le_of_ble_eq_true rfl, Nat.le_of_ble_eq_true rfl⟩ ⟨Nat.zero_le _, Nat.zero_le _⟩ hP hD hS hA [0, 1, 5] [2, 3, 4, 6, 7] [5, 6, 0, 1, 2, 7, 3, 4] rfl rfl rfl rfl (by decide) (by decide) (by decide) (by decide) (fun _ => rfl) hl.1 rfl (Nat.le_of_ble_eq_true rfl) dX0_add_15 (fun b1 H locs h2 hP hD hS => ?_)
  have hP : va_P D wk_Cl [o0_ h0 qr qn qw qa qb qc qx, ar_ qr cA 20 f1, ar_ qn cA 5 f2, ar_ qw cA 10 f3, ar_ qa cA 5 a1, ar_ qb cA 5 b1, ar_ qc cA 5 f6, ar_ qx cA 5 f7] H := hP
  have hD : va_D A [o0_ h0 qr qn qw qa qb qc qx, ar_ qr cA 20 f1, ar_ qn cA 5 f2, ar_ qw cA 10 f3, ar_ qa cA 5 a1, ar_ qb cA 5 b1, ar_ qc cA 5 f6, ar_ qx cA 5 f7] := hD
  refine lv_iconst (v := nI 0) hx hb dX0_add_18 (by decide) ?_
  refine lv_istore (lv' := [(4, .int (nI 0)), (0, .ref h0), (1, .int p0), (2, .int p1), (3, .int p2)]) hx hb dX0_add_19 hl (by decide) rfl (fun ls hl => ?_)
  have lp : ∀ (n k : Nat), k + n = 5 → ∀ (H : Heap) (locs : List Loc) (ls : Array Slot), va_P D wk_Cl [o0_ h0 qr qn qw qa qb qc qx, ar_ qr cA 20 f1, ar_ qn cA 5 f2, ar_ qw cA 10 f3, ar_ qa cA 5 (f0_ a1 (fun k => a1 k ^^^ b1 k) k), ar_ qb cA 5 b1, ar_ qc cA 5 f6, ar_ qx cA 5 f7] H → va_D A [o0_ h0 qr qn qw qa qb qc qx, ar_ qr cA 20 f1, ar_ qn cA 5 f2, ar_ qw cA 10 f3, ar_ qa cA 5 (f0_ a1 (fun k => a1 k ^^^ b1 k) k), ar_ qb cA 5 b1, ar_ qc cA 5 f6, ar_ qx cA 5 f7] → va_S A s.heap H locs → lv_has ls 5 [(4, .int (nI k)), (0, .ref h0), (1, .int p0), (2, .int p1), (3, .int p2)] → W p l e (rm_ 2 43) s m ([.ref h0, .int p0, .int p1, .int p2] : List Value).toArray below meth c H locs 0 0 Q (F0 m 21 ls []) := by
    intro n
    induction n with
    | zero =>
      intro k hkk H locs ls hP hD hS hl
      obtain rfl : k = 5 := by omega
      refine lv_iload hx hb dX0_add_21 (lv_at hl 0 rfl) ?_
      refine lv_iconst (v := nI 5) hx hb dX0_add_23 (by decide) ?_
      refine lv_icmp_ge (tgt := 50) hx hb dX0_add_24 (by decide) (fun _ => ?_) (fun hc => absurd (by decide) hc)
      refine lv_aload_n hx hb dX0_add_50 rfl (lv_at hl 1 rfl) ?_
      refine lv_iload_n hx hb dX0_add_51 rfl (lv_at hl 2 rfl) ?_
      refine cv_V (ci := 0) (n := 1) (As := [.int p0]) (rest := []) (wr := [ar_ qn cA 5 f2, ar_ qw cA 10 f3, ar_ qb cA 5 b1, ar_ qc cA 5 f6, ar_ qx cA 5 f7]) (w2 := fun u : (Nat → Int64) => [o0_ h0 qr qn qw qa qb qc qx, ar_ qr cA 20 u, ar_ qn cA 5 f2, ar_ qw cA 10 f3, ar_ qa cA 5 (f0_ a1 (fun k => a1 k ^^^ b1 k) 5), ar_ qb cA 5 b1, ar_ qc cA 5 f6, ar_ qx cA 5 f7]) hx hb hml hown hts hK (m0_set l D cA h0 qr qn qw qa qb qc qx f1 (f0_ a1 (fun k => a1 k ^^^ b1 k) 5) p0) (lw_V q75 q77 qs2 q11 q78) (by decide +kernel) rfl ⟨rfl, rfl⟩ ⟨Nat.le_of_ble_eq_true rfl, Nat.le_of_ble_eq_true rfl⟩ ⟨Nat.zero_le _, Nat.zero_le _⟩ hP hD hS hA [0, 1, 4] [2, 3, 5, 6, 7] [5, 6, 0, 1, 7, 2, 3, 4] rfl rfl rfl rfl (by decide) (by decide) (by decide) (by decide) (fun _ => rfl) hl.1 rfl (Nat.le_of_ble_eq_true rfl) dX0_add_52 (fun r1 H locs hs hP hD hS => ?_)
      have hP : va_P D wk_Cl [o0_ h0 qr qn qw qa qb qc qx, ar_ qr cA 20 r1, ar_ qn cA 5 f2, ar_ qw cA 10 f3, ar_ qa cA 5 (f0_ a1 (fun k => a1 k ^^^ b1 k) 5), ar_ qb cA 5 b1, ar_ qc cA 5 f6, ar_ qx cA 5 f7] H := hP
      have hD : va_D A [o0_ h0 qr qn qw qa qb qc qx, ar_ qr cA 20 r1, ar_ qn cA 5 f2, ar_ qw cA 10 f3, ar_ qa cA 5 (f0_ a1 (fun k => a1 k ^^^ b1 k) 5), ar_ qb cA 5 b1, ar_ qc cA 5 f6, ar_ qx cA 5 f7] := hD
      exact ret (r1, f2, f3, f0_ a1 (fun k => a1 k ^^^ b1 k) 5, b1, f6, f7) _ _ _ _ dX0_add_55 ⟨by rw [hs]; exact rgs_set hv (rp_congr (rp_xor (rgs_get hv p1 h1) (rgs_get hv p2 h2)) (fun k hk => f0_in a1 (fun k => a1 k ^^^ b1 k) 5 k hk)) _, rfl, rfl⟩ hP hD hS
    | succ n ih =>
      intro k hkk H locs ls hP hD hS hl
      have hk : k < 5 := by omega
      refine lv_iload hx hb dX0_add_21 (lv_at hl 0 rfl) ?_
      refine lv_iconst (v := nI 5) hx hb dX0_add_23 (by decide) ?_
      refine lv_icmp_ge (tgt := 50) hx hb dX0_add_24 (by decide) (fun hc => absurd hc (lq k hk)) (fun _ => ?_)
      refine lv_aload_n hx hb dX0_add_27 rfl (lv_at hl 1 rfl) ?_
      refine va_get (D := D) (ci := 0) (v := .ref qa) (C := RX0) (T := TX0) (N := 7) hx hb hts in_X0 hown hK hP 0 rfl rfl 3 (by decide) (hts _ q43) (fun _ h9 => h9) rfl dX0_add_28 ?_
      refine lv_iload hx hb dX0_add_31 (lv_at hl 0 rfl) ?_
      refine lv_dup2_11 hx hb dX0_add_33 rfl rfl ?_
      refine la_ (v := a1 k) hx hb hK hP 4 rfl k rfl (by omega) (by decide) (f0_out a1 _ k k (Nat.le_refl k)) dX0_add_34 ?_
      refine lv_aload_n hx hb dX0_add_35 rfl (lv_at hl 1 rfl) ?_
      refine va_get (D := D) (ci := 0) (v := .ref qb) (C := RX0) (T := TX0) (N := 7) hx hb hts in_X0 hown hK hP 0 rfl rfl 4 (by decide) (hts _ q44) (fun _ h9 => h9) rfl dX0_add_36 ?_
      refine lv_iload hx hb dX0_add_39 (lv_at hl 0 rfl) ?_
      refine la_ (v := b1 k) hx hb hK hP 5 rfl k rfl (by omega) (by decide) rfl dX0_add_41 ?_
      refine lv_lxor hx hb dX0_add_42 ?_
      refine st_ hx hb hK hP hD hS 4 rfl k rfl (by omega) (by decide) dX0_add_43 (fun g_1 H locs hg_1 hP hD hS => ?_)
      obtain rfl : g_1 = f0_ a1 (fun k => a1 k ^^^ b1 k) (k + 1) := hg_1
      have hP : va_P D wk_Cl [o0_ h0 qr qn qw qa qb qc qx, ar_ qr cA 20 f1, ar_ qn cA 5 f2, ar_ qw cA 10 f3, ar_ qa cA 5 (f0_ a1 (fun k => a1 k ^^^ b1 k) (k + 1)), ar_ qb cA 5 b1, ar_ qc cA 5 f6, ar_ qx cA 5 f7] H := hP
      have hD : va_D A [o0_ h0 qr qn qw qa qb qc qx, ar_ qr cA 20 f1, ar_ qn cA 5 f2, ar_ qw cA 10 f3, ar_ qa cA 5 (f0_ a1 (fun k => a1 k ^^^ b1 k) (k + 1)), ar_ qb cA 5 b1, ar_ qc cA 5 f6, ar_ qx cA 5 f7] := hD
      refine lv_iinc (v := nI (k + 1)) (lv' := [(4, .int (nI (k + 1))), (0, .ref h0), (1, .int p0), (2, .int p1), (3, .int p2)]) hx hb dX0_add_44 hl (k := 0) rfl (ii_1 _) (by decide) rfl (fun ls hl => ?_)
      refine lv_goto (tgt := 21) hx hb dX0_add_47 (by decide) ?_
      exact ih (k + 1) (by omega) _ _ _ hP hD hS (lv_sub hl [0, 1, 2, 3, 4] rfl)
  exact lp 5 0 rfl _ _ _ hP hD hS (lv_sub hl [0, 1, 2, 3, 4] rfl)
set_option maxHeartbeats 4000000 in
set_option maxRecDepth 100000 in
/-- addOne(r, p) -/
theorem m0_addOne (l : Launch) (D : va_G) (cA : ClassId) (h0 qr qn qw qa qb qc qx : Nat) (f1 f2 f3 f4 f5 f6 f7 : Nat → Int64) (v : Nat → gf_V) (hv : rgs_ f1 v) (p0 p1 : Int32) : MetV_ l yX0_addOne cX0_addOne 3 (rm_ 2 43) D cA [.ref h0, .int p0, .int p1] [o0_ h0 qr qn qw qa qb qc qx, ar_ qr cA 20 f1, ar_ qn cA 5 f2, ar_ qw cA 10 f3, ar_ qa cA 5 f4, ar_ qb cA 5 f5, ar_ qc cA 5 f6, ar_ qx cA 5 f7] (fun u : (Nat → Int64) × (Nat → Int64) × (Nat → Int64) × (Nat → Int64) × (Nat → Int64) × (Nat → Int64) × (Nat → Int64) => rgs_ u.1 (up_ v (rg_ p0) (v (rg_ p1) ^^^ 1#283)) ∧ u.2.1 = f2 ∧ u.2.2.2.2.2.2 = f7) (fun u => [o0_ h0 qr qn qw qa qb qc qx, ar_ qr cA 20 u.1, ar_ qn cA 5 u.2.1, ar_ qw cA 10 u.2.2.1, ar_ qa cA 5 u.2.2.2.1, ar_ qb cA 5 u.2.2.2.2.1, ar_ qc cA 5 u.2.2.2.2.2.1, ar_ qx cA 5 u.2.2.2.2.2.2]) := by
  refine metV_of (by decide) (Nat.le_of_ble_eq_true rfl) ?_
  intro p e s m below meth c A Q hx hb hml hown hts hK hA ret ls hP hD hl
  have hown : s.vm.findClass "Field283" = some m.cls := hown
  have hS : va_S A s.heap s.heap [] := va_S.rf
  have hl : lv_has ls 3 [(0, .ref h0), (1, .int p0), (2, .int p1)] := hl
  refine lv_aload_n hx hb dX0_addOne_0 rfl (lv_at hl 0 rfl) ?_
  refine lv_aload_n hx hb dX0_addOne_1 rfl (lv_at hl 0 rfl) ?_
  refine va_get (D := D) (ci := 0) (v := .ref qa) (C := RX0) (T := TX0) (N := 7) hx hb hts in_X0 hown hK hP 0 rfl rfl 3 (by decide) (hts _ q43) (fun _ h9 => h9) rfl dX0_addOne_2 ?_
  refine lv_iload_n hx hb dX0_addOne_5 rfl (lv_at hl 2 rfl) ?_
  refine cv_V (ci := 0) (n := 2) (As := [.ref qa, .int p1]) (rest := []) (wr := [ar_ qn cA 5 f2, ar_ qw cA 10 f3, ar_ qb cA 5 f5, ar_ qc cA 5 f6, ar_ qx cA 5 f7]) (w2 := fun u : (Nat → Int64) => [o0_ h0 qr qn qw qa qb qc qx, ar_ qr cA 20 f1, ar_ qn cA 5 f2, ar_ qw cA 10 f3, ar_ qa cA 5 u, ar_ qb cA 5 f5, ar_ qc cA 5 f6, ar_ qx cA 5 f7]) hx hb hml hown hts hK (m0_get l D cA h0 qr qn qw qa qb qc qx qa f1 f4 p1) (lw_V q91 q93 qs3 q11 q94) (by decide +kernel) rfl ⟨rfl, rfl⟩ ⟨Nat.le_of_ble_eq_true rfl, Nat.le_of_ble_eq_true rfl⟩ ⟨Nat.zero_le _, Nat.zero_le _⟩ hP hD hS hA [0, 1, 4] [2, 3, 5, 6, 7] [5, 6, 0, 1, 7, 2, 3, 4] rfl rfl rfl rfl (by decide) (by decide) (by decide) (by decide) (fun _ => rfl) hl.1 rfl (Nat.le_of_ble_eq_true rfl) dX0_addOne_6 (fun a1 H locs h1 hP hD hS => ?_)
  have hP : va_P D wk_Cl [o0_ h0 qr qn qw qa qb qc qx, ar_ qr cA 20 f1, ar_ qn cA 5 f2, ar_ qw cA 10 f3, ar_ qa cA 5 a1, ar_ qb cA 5 f5, ar_ qc cA 5 f6, ar_ qx cA 5 f7] H := hP
  have hD : va_D A [o0_ h0 qr qn qw qa qb qc qx, ar_ qr cA 20 f1, ar_ qn cA 5 f2, ar_ qw cA 10 f3, ar_ qa cA 5 a1, ar_ qb cA 5 f5, ar_ qc cA 5 f6, ar_ qx cA 5 f7] := hD
  refine lv_aload_n hx hb dX0_addOne_9 rfl (lv_at hl 0 rfl) ?_
  refine va_get (D := D) (ci := 0) (v := .ref qa) (C := RX0) (T := TX0) (N := 7) hx hb hts in_X0 hown hK hP 0 rfl rfl 3 (by decide) (hts _ q43) (fun _ h9 => h9) rfl dX0_addOne_10 ?_
  refine lv_iconst (v := nI 0) hx hb dX0_addOne_13 (by decide) ?_
  refine lv_dup2_11 hx hb dX0_addOne_14 rfl rfl ?_
  refine la_ (v := a1 0) hx hb hK hP 4 rfl 0 rfl (by decide) (by decide) rfl dX0_addOne_15 ?_
  refine lv_lconst (v := 1) hx hb dX0_addOne_16 (by decide) ?_
  refine lv_lxor hx hb dX0_addOne_17 ?_
  refine st_ hx hb hK hP hD hS 4 rfl 0 rfl (by decide) (by decide) dX0_addOne_18 (fun g_1 H locs hg_1 hP hD hS => ?_)
  obtain rfl : g_1 = vp_updL a1 0 (a1 0 ^^^ 1) := hg_1
  have hP : va_P D wk_Cl [o0_ h0 qr qn qw qa qb qc qx, ar_ qr cA 20 f1, ar_ qn cA 5 f2, ar_ qw cA 10 f3, ar_ qa cA 5 (vp_updL a1 0 (a1 0 ^^^ 1)), ar_ qb cA 5 f5, ar_ qc cA 5 f6, ar_ qx cA 5 f7] H := hP
  have hD : va_D A [o0_ h0 qr qn qw qa qb qc qx, ar_ qr cA 20 f1, ar_ qn cA 5 f2, ar_ qw cA 10 f3, ar_ qa cA 5 (vp_updL a1 0 (a1 0 ^^^ 1)), ar_ qb cA 5 f5, ar_ qc cA 5 f6, ar_ qx cA 5 f7] := hD
  refine lv_aload_n hx hb dX0_addOne_19 rfl (lv_at hl 0 rfl) ?_
  refine lv_iload_n hx hb dX0_addOne_20 rfl (lv_at hl 1 rfl) ?_
  refine cv_V (ci := 0) (n := 1) (As := [.int p0]) (rest := []) (wr := [ar_ qn cA 5 f2, ar_ qw cA 10 f3, ar_ qb cA 5 f5, ar_ qc cA 5 f6, ar_ qx cA 5 f7]) (w2 := fun u : (Nat → Int64) => [o0_ h0 qr qn qw qa qb qc qx, ar_ qr cA 20 u, ar_ qn cA 5 f2, ar_ qw cA 10 f3, ar_ qa cA 5 (vp_updL a1 0 (a1 0 ^^^ 1)), ar_ qb cA 5 f5, ar_ qc cA 5 f6, ar_ qx cA 5 f7]) hx hb hml hown hts hK (m0_set l D cA h0 qr qn qw qa qb qc qx f1 (vp_updL a1 0 (a1 0 ^^^ 1)) p0) (lw_V q75 q77 qs2 q11 q78) (by decide +kernel) rfl ⟨rfl, rfl⟩ ⟨Nat.le_of_ble_eq_true rfl, Nat.le_of_ble_eq_true rfl⟩ ⟨Nat.zero_le _, Nat.zero_le _⟩ hP hD hS hA [0, 1, 4] [2, 3, 5, 6, 7] [5, 6, 0, 1, 7, 2, 3, 4] rfl rfl rfl rfl (by decide) (by decide) (by decide) (by decide) (fun _ => rfl) hl.1 rfl (Nat.le_of_ble_eq_true rfl) dX0_addOne_21 (fun r1 H locs hs hP hD hS => ?_)
  have hP : va_P D wk_Cl [o0_ h0 qr qn qw qa qb qc qx, ar_ qr cA 20 r1, ar_ qn cA 5 f2, ar_ qw cA 10 f3, ar_ qa cA 5 (vp_updL a1 0 (a1 0 ^^^ 1)), ar_ qb cA 5 f5, ar_ qc cA 5 f6, ar_ qx cA 5 f7] H := hP
  have hD : va_D A [o0_ h0 qr qn qw qa qb qc qx, ar_ qr cA 20 r1, ar_ qn cA 5 f2, ar_ qw cA 10 f3, ar_ qa cA 5 (vp_updL a1 0 (a1 0 ^^^ 1)), ar_ qb cA 5 f5, ar_ qc cA 5 f6, ar_ qx cA 5 f7] := hD
  exact ret (r1, f2, f3, vp_updL a1 0 (a1 0 ^^^ 1), f5, f6, f7) _ _ _ _ dX0_addOne_24 ⟨by rw [hs]; exact rgs_set hv (rp_one' (rgs_get hv p1 h1)) _, rfl, rfl⟩ hP hD hS
set_option maxHeartbeats 4000000 in
set_option maxRecDepth 100000 in
/-- multiply(r, p, q) -/
theorem m0_multiply (l : Launch) (D : va_G) (cA : ClassId) (h0 qr qn qw qa qb qc qx : Nat) (f1 f2 f3 f4 f5 f6 f7 : Nat → Int64) (v : Nat → gf_V) (hv : rgs_ f1 v) (p0 p1 p2 : Int32) : MetV_ l yX0_multiply cX0_multiply 4 (rm_ 2 56) D cA [.ref h0, .int p0, .int p1, .int p2] [o0_ h0 qr qn qw qa qb qc qx, ar_ qr cA 20 f1, ar_ qn cA 5 f2, ar_ qw cA 10 f3, ar_ qa cA 5 f4, ar_ qb cA 5 f5, ar_ qc cA 5 f6, ar_ qx cA 5 f7] (fun u : (Nat → Int64) × (Nat → Int64) × (Nat → Int64) × (Nat → Int64) × (Nat → Int64) × (Nat → Int64) × (Nat → Int64) => rgs_ u.1 (up_ v (rg_ p0) (gf_mul (v (rg_ p1)) (v (rg_ p2)))) ∧ u.2.1 = f2 ∧ u.2.2.2.2.2.2 = f7) (fun u => [o0_ h0 qr qn qw qa qb qc qx, ar_ qr cA 20 u.1, ar_ qn cA 5 u.2.1, ar_ qw cA 10 u.2.2.1, ar_ qa cA 5 u.2.2.2.1, ar_ qb cA 5 u.2.2.2.2.1, ar_ qc cA 5 u.2.2.2.2.2.1, ar_ qx cA 5 u.2.2.2.2.2.2]) := by
  refine metV_of (by decide) (Nat.le_of_ble_eq_true rfl) ?_
  intro p e s m below meth c A Q hx hb hml hown hts hK hA ret ls hP hD hl
  have hown : s.vm.findClass "Field283" = some m.cls := hown
  have hS : va_S A s.heap s.heap [] := va_S.rf
  have hl : lv_has ls 4 [(0, .ref h0), (1, .int p0), (2, .int p1), (3, .int p2)] := hl
  refine lv_aload_n hx hb dX0_multiply_0 rfl (lv_at hl 0 rfl) ?_
  refine lv_aload_n hx hb dX0_multiply_1 rfl (lv_at hl 0 rfl) ?_
  refine va_get (D := D) (ci := 0) (v := .ref qa) (C := RX0) (T := TX0) (N := 7) hx hb hts in_X0 hown hK hP 0 rfl rfl 3 (by decide) (hts _ q43) (fun _ h9 => h9) rfl dX0_multiply_2 ?_
  refine lv_iload_n hx hb dX0_multiply_5 rfl (lv_at hl 2 rfl) ?_
  refine cv_V (ci := 0) (n := 2) (As := [.ref qa, .int p1]) (rest := []) (wr := [ar_ qn cA 5 f2, ar_ qw cA 10 f3, ar_ qb cA 5 f5, ar_ qc cA 5 f6, ar_ qx cA 5 f7]) (w2 := fun u : (Nat → Int64) => [o0_ h0 qr qn qw qa qb qc qx, ar_ qr cA 20 f1, ar_ qn cA 5 f2, ar_ qw cA 10 f3, ar_ qa cA 5 u, ar_ qb cA 5 f5, ar_ qc cA 5 f6, ar_ qx cA 5 f7]) hx hb hml hown hts hK (m0_get l D cA h0 qr qn qw qa qb qc qx qa f1 f4 p1) (lw_V q91 q93 qs3 q11 q94) (by decide +kernel) rfl ⟨rfl, rfl⟩ ⟨Nat.le_of_ble_eq_true rfl, Nat.le_of_ble_eq_true rfl⟩ ⟨Nat.zero_le _, Nat.zero_le _⟩ hP hD hS hA [0, 1, 4] [2, 3, 5, 6, 7] [5, 6, 0, 1, 7, 2, 3, 4] rfl rfl rfl rfl (by decide) (by decide) (by decide) (by decide) (fun _ => rfl) hl.1 rfl (Nat.le_of_ble_eq_true rfl) dX0_multiply_6 (fun a1 H locs h1 hP hD hS => ?_)
  have hP : va_P D wk_Cl [o0_ h0 qr qn qw qa qb qc qx, ar_ qr cA 20 f1, ar_ qn cA 5 f2, ar_ qw cA 10 f3, ar_ qa cA 5 a1, ar_ qb cA 5 f5, ar_ qc cA 5 f6, ar_ qx cA 5 f7] H := hP
  have hD : va_D A [o0_ h0 qr qn qw qa qb qc qx, ar_ qr cA 20 f1, ar_ qn cA 5 f2, ar_ qw cA 10 f3, ar_ qa cA 5 a1, ar_ qb cA 5 f5, ar_ qc cA 5 f6, ar_ qx cA 5 f7] := hD
  refine lv_aload_n hx hb dX0_multiply_9 rfl (lv_at hl 0 rfl) ?_
  refine lv_aload_n hx hb dX0_multiply_10 rfl (lv_at hl 0 rfl) ?_
  refine va_get (D := D) (ci := 0) (v := .ref qb) (C := RX0) (T := TX0) (N := 7) hx hb hts in_X0 hown hK hP 0 rfl rfl 4 (by decide) (hts _ q44) (fun _ h9 => h9) rfl dX0_multiply_11 ?_
  refine lv_iload_n hx hb dX0_multiply_14 rfl (lv_at hl 3 rfl) ?_
  refine cv_V (ci := 0) (n := 2) (As := [.ref qb, .int p2]) (rest := []) (wr := [ar_ qn cA 5 f2, ar_ qw cA 10 f3, ar_ qa cA 5 a1, ar_ qc cA 5 f6, ar_ qx cA 5 f7]) (w2 := fun u : (Nat → Int64) => [o0_ h0 qr qn qw qa qb qc qx, ar_ qr cA 20 f1, ar_ qn cA 5 f2, ar_ qw cA 10 f3, ar_ qa cA 5 a1, ar_ qb cA 5 u, ar_ qc cA 5 f6, ar_ qx cA 5 f7]) hx hb hml hown hts hK (m0_get l D cA h0 qr qn qw qa qb qc qx qb f1 f5 p2) (lw_V q91 q93 qs3 q11 q94) (by decide +kernel) rfl ⟨rfl, rfl⟩ ⟨Nat.le_of_ble_eq_true rfl, Nat.le_of_ble_eq_true rfl⟩ ⟨Nat.zero_le _, Nat.zero_le _⟩ hP hD hS hA [0, 1, 5] [2, 3, 4, 6, 7] [5, 6, 0, 1, 2, 7, 3, 4] rfl rfl rfl rfl (by decide) (by decide) (by decide) (by decide) (fun _ => rfl) hl.1 rfl (Nat.le_of_ble_eq_true rfl) dX0_multiply_15 (fun b1 H locs h2 hP hD hS => ?_)
  have hP : va_P D wk_Cl [o0_ h0 qr qn qw qa qb qc qx, ar_ qr cA 20 f1, ar_ qn cA 5 f2, ar_ qw cA 10 f3, ar_ qa cA 5 a1, ar_ qb cA 5 b1, ar_ qc cA 5 f6, ar_ qx cA 5 f7] H := hP
  have hD : va_D A [o0_ h0 qr qn qw qa qb qc qx, ar_ qr cA 20 f1, ar_ qn cA 5 f2, ar_ qw cA 10 f3, ar_ qa cA 5 a1, ar_ qb cA 5 b1, ar_ qc cA 5 f6, ar_ qx cA 5 f7] := hD
  refine lv_aload_n hx hb dX0_multiply_18 rfl (lv_at hl 0 rfl) ?_
  refine lv_aload_n hx hb dX0_multiply_19 rfl (lv_at hl 0 rfl) ?_
  refine va_get (D := D) (ci := 0) (v := .ref qb) (C := RX0) (T := TX0) (N := 7) hx hb hts in_X0 hown hK hP 0 rfl rfl 4 (by decide) (hts _ q44) (fun _ h9 => h9) rfl dX0_multiply_20 ?_
  refine cv_V (ci := 0) (n := 1) (As := [.ref qb]) (rest := []) (wr := [ar_ qr cA 20 f1, ar_ qn cA 5 f2, ar_ qc cA 5 f6, ar_ qx cA 5 f7]) (w2 := fun u : (Nat → Int64) × (Nat → Int64) => [o0_ h0 qr qn qw qa qb qc qx, ar_ qr cA 20 f1, ar_ qn cA 5 f2, ar_ qw cA 10 u.1, ar_ qa cA 5 u.2, ar_ qb cA 5 b1, ar_ qc cA 5 f6, ar_ qx cA 5 f7]) hx hb hml hown hts hK (m0_times l D cA h0 qr qn qw qa qb qc qx qb f3 a1 b1 _ _ (rgs_get hv p1 h1) (rgs_get hv p2 h2)) (lw_V q103 q105 qs4 q11 q106) (by decide +kernel) rfl ⟨rfl, rfl⟩ ⟨Nat.le_of_ble_eq_true rfl, Nat.le_of_ble_eq_true rfl⟩ ⟨Nat.zero_le _, Nat.zero_le _⟩ hP hD hS hA [0, 3, 4, 5] [1, 2, 6, 7] [4, 0, 1, 5, 6, 7, 2, 3] rfl rfl rfl rfl (by decide) (by decide) (by decide) (by decide) (fun _ => rfl) hl.1 rfl (Nat.le_of_ble_eq_true rfl) dX0_multiply_23 (fun u H locs h3 hP hD hS => ?_)
  obtain ⟨w1, a2⟩ := u
  have hP : va_P D wk_Cl [o0_ h0 qr qn qw qa qb qc qx, ar_ qr cA 20 f1, ar_ qn cA 5 f2, ar_ qw cA 10 w1, ar_ qa cA 5 a2, ar_ qb cA 5 b1, ar_ qc cA 5 f6, ar_ qx cA 5 f7] H := hP
  have hD : va_D A [o0_ h0 qr qn qw qa qb qc qx, ar_ qr cA 20 f1, ar_ qn cA 5 f2, ar_ qw cA 10 w1, ar_ qa cA 5 a2, ar_ qb cA 5 b1, ar_ qc cA 5 f6, ar_ qx cA 5 f7] := hD
  refine lv_aload_n hx hb dX0_multiply_26 rfl (lv_at hl 0 rfl) ?_
  refine lv_iload_n hx hb dX0_multiply_27 rfl (lv_at hl 1 rfl) ?_
  refine cv_V (ci := 0) (n := 1) (As := [.int p0]) (rest := []) (wr := [ar_ qn cA 5 f2, ar_ qw cA 10 w1, ar_ qb cA 5 b1, ar_ qc cA 5 f6, ar_ qx cA 5 f7]) (w2 := fun u : (Nat → Int64) => [o0_ h0 qr qn qw qa qb qc qx, ar_ qr cA 20 u, ar_ qn cA 5 f2, ar_ qw cA 10 w1, ar_ qa cA 5 a2, ar_ qb cA 5 b1, ar_ qc cA 5 f6, ar_ qx cA 5 f7]) hx hb hml hown hts hK (m0_set l D cA h0 qr qn qw qa qb qc qx f1 a2 p0) (lw_V q75 q77 qs2 q11 q78) (by decide +kernel) rfl ⟨rfl, rfl⟩ ⟨Nat.le_of_ble_eq_true rfl, Nat.le_of_ble_eq_true rfl⟩ ⟨Nat.zero_le _, Nat.zero_le _⟩ hP hD hS hA [0, 1, 4] [2, 3, 5, 6, 7] [5, 6, 0, 1, 7, 2, 3, 4] rfl rfl rfl rfl (by decide) (by decide) (by decide) (by decide) (fun _ => rfl) hl.1 rfl (Nat.le_of_ble_eq_true rfl) dX0_multiply_28 (fun r1 H locs hs hP hD hS => ?_)
  have hP : va_P D wk_Cl [o0_ h0 qr qn qw qa qb qc qx, ar_ qr cA 20 r1, ar_ qn cA 5 f2, ar_ qw cA 10 w1, ar_ qa cA 5 a2, ar_ qb cA 5 b1, ar_ qc cA 5 f6, ar_ qx cA 5 f7] H := hP
  have hD : va_D A [o0_ h0 qr qn qw qa qb qc qx, ar_ qr cA 20 r1, ar_ qn cA 5 f2, ar_ qw cA 10 w1, ar_ qa cA 5 a2, ar_ qb cA 5 b1, ar_ qc cA 5 f6, ar_ qx cA 5 f7] := hD
  exact ret (r1, f2, w1, a2, b1, f6, f7) _ _ _ _ dX0_multiply_31 ⟨by rw [hs]; exact rgs_set hv h3 _, rfl, rfl⟩ hP hD hS
set_option maxHeartbeats 4000000 in
set_option maxRecDepth 100000 in
/-- square(r, p) -/
theorem m0_square (l : Launch) (D : va_G) (cA : ClassId) (h0 qr qn qw qa qb qc qx : Nat) (f1 f2 f3 f4 f5 f6 f7 : Nat → Int64) (v : Nat → gf_V) (hv : rgs_ f1 v) (p0 p1 : Int32) : MetV_ l yX0_square cX0_square 3 (rm_ 2 44) D cA [.ref h0, .int p0, .int p1] [o0_ h0 qr qn qw qa qb qc qx, ar_ qr cA 20 f1, ar_ qn cA 5 f2, ar_ qw cA 10 f3, ar_ qa cA 5 f4, ar_ qb cA 5 f5, ar_ qc cA 5 f6, ar_ qx cA 5 f7] (fun u : (Nat → Int64) × (Nat → Int64) × (Nat → Int64) × (Nat → Int64) × (Nat → Int64) × (Nat → Int64) × (Nat → Int64) => rgs_ u.1 (up_ v (rg_ p0) (gf_sq (v (rg_ p1)))) ∧ u.2.1 = f2 ∧ u.2.2.2.2.2.2 = f7) (fun u => [o0_ h0 qr qn qw qa qb qc qx, ar_ qr cA 20 u.1, ar_ qn cA 5 u.2.1, ar_ qw cA 10 u.2.2.1, ar_ qa cA 5 u.2.2.2.1, ar_ qb cA 5 u.2.2.2.2.1, ar_ qc cA 5 u.2.2.2.2.2.1, ar_ qx cA 5 u.2.2.2.2.2.2]) := by
  refine metV_of (by decide) (Nat.le_of_ble_eq_true rfl) ?_
  intro p e s m below meth c A Q hx hb hml hown hts hK hA ret ls hP hD hl
  have hown : s.vm.findClass "Field283" = some m.cls := hown
  have hS : va_S A s.heap s.heap [] := va_S.rf
  have hl : lv_has ls 3 [(0, .ref h0), (1, .int p0), (2, .int p1)] := hl
  refine lv_aload_n hx hb dX0_square_0 rfl (lv_at hl 0 rfl) ?_
  refine lv_aload_n hx hb dX0_square_1 rfl (lv_at hl 0 rfl) ?_
  refine va_get (D := D) (ci := 0) (v := .ref qa) (C := RX0) (T := TX0) (N := 7) hx hb hts in_X0 hown hK hP 0 rfl rfl 3 (by decide) (hts _ q43) (fun _ h9 => h9) rfl dX0_square_2 ?_
  refine lv_iload_n hx hb dX0_square_5 rfl (lv_at hl 2 rfl) ?_
  refine cv_V (ci := 0) (n := 2) (As := [.ref qa, .int p1]) (rest := []) (wr := [ar_ qn cA 5 f2, ar_ qw cA 10 f3, ar_ qb cA 5 f5, ar_ qc cA 5 f6, ar_ qx cA 5 f7]) (w2 := fun u : (Nat → Int64) => [o0_ h0 qr qn qw qa qb qc qx, ar_ qr cA 20 f1, ar_ qn cA 5 f2, ar_ qw cA 10 f3, ar_ qa cA 5 u, ar_ qb cA 5 f5, ar_ qc cA 5 f6, ar_ qx cA 5 f7]) hx hb hml hown hts hK (m0_get l D cA h0 qr qn qw qa qb qc qx qa f1 f4 p1) (lw_V q91 q93 qs3 q11 q94) (by decide +kernel) rfl ⟨rfl, rfl⟩ ⟨Nat.le_of_ble_eq_true rfl, Nat.le_of_ble_eq_true rfl⟩ ⟨Nat.zero_le _, Nat.zero_le _⟩ hP hD hS hA [0, 1, 4] [2, 3, 5, 6, 7] [5, 6, 0, 1, 7, 2, 3, 4] rfl rfl rfl rfl (by decide) (by decide) (by decide) (by decide) (fun _ => rfl) hl.1 rfl (Nat.le_of_ble_eq_true rfl) dX0_square_6 (fun a1 H locs h1 hP hD hS => ?_)
  have hP : va_P D wk_Cl [o0_ h0 qr qn qw qa qb qc qx, ar_ qr cA 20 f1, ar_ qn cA 5 f2, ar_ qw cA 10 f3, ar_ qa cA 5 a1, ar_ qb cA 5 f5, ar_ qc cA 5 f6, ar_ qx cA 5 f7] H := hP
  have hD : va_D A [o0_ h0 qr qn qw qa qb qc qx, ar_ qr cA 20 f1, ar_ qn cA 5 f2, ar_ qw cA 10 f3, ar_ qa cA 5 a1, ar_ qb cA 5 f5, ar_ qc cA 5 f6, ar_ qx cA 5 f7] := hD
  refine lv_aload_n hx hb dX0_square_9 rfl (lv_at hl 0 rfl) ?_
  refine cv_V (ci := 0) (n := 0) (As := []) (rest := []) (wr := [ar_ qr cA 20 f1, ar_ qn cA 5 f2, ar_ qb cA 5 f5, ar_ qc cA 5 f6, ar_ qx cA 5 f7]) (w2 := fun u : (Nat → Int64) × (Nat → Int64) => [o0_ h0 qr qn qw qa qb qc qx, ar_ qr cA 20 f1, ar_ qn cA 5 f2, ar_ qw cA 10 u.1, ar_ qa cA 5 u.2, ar_ qb cA 5 f5, ar_ qc cA 5 f6, ar_ qx cA 5 f7]) hx hb hml hown hts hK (m0_twice l D cA h0 qr qn qw qa qb qc qx f3 a1 _ (rgs_get hv p1 h1)) (lw_V q22 q24 qs0 q11 q25) (by decide +kernel) rfl ⟨rfl, rfl⟩ ⟨Nat.le_of_ble_eq_true rfl, Nat.le_of_ble_eq_true rfl⟩ ⟨Nat.zero_le _, Nat.zero_le _⟩ hP hD hS hA [0, 3, 4] [1, 2, 5, 6, 7] [5, 0, 1, 6, 7, 2, 3, 4] rfl rfl rfl rfl (by decide) (by decide) (by decide) (by decide) (fun _ => rfl) hl.1 rfl (Nat.le_of_ble_eq_true rfl) dX0_square_10 (fun u H locs h3 hP hD hS => ?_)
  obtain ⟨w1, a2⟩ := u
  have hP : va_P D wk_Cl [o0_ h0 qr qn qw qa qb qc qx, ar_ qr cA 20 f1, ar_ qn cA 5 f2, ar_ qw cA 10 w1, ar_ qa cA 5 a2, ar_ qb cA 5 f5, ar_ qc cA 5 f6, ar_ qx cA 5 f7] H := hP
  have hD : va_D A [o0_ h0 qr qn qw qa qb qc qx, ar_ qr cA 20 f1, ar_ qn cA 5 f2, ar_ qw cA 10 w1, ar_ qa cA 5 a2, ar_ qb cA 5 f5, ar_ qc cA 5 f6, ar_ qx cA 5 f7] := hD
  refine lv_aload_n hx hb dX0_square_13 rfl (lv_at hl 0 rfl) ?_
  refine lv_iload_n hx hb dX0_square_14 rfl (lv_at hl 1 rfl) ?_
  refine cv_V (ci := 0) (n := 1) (As := [.int p0]) (rest := []) (wr := [ar_ qn cA 5 f2, ar_ qw cA 10 w1, ar_ qb cA 5 f5, ar_ qc cA 5 f6, ar_ qx cA 5 f7]) (w2 := fun u : (Nat → Int64) => [o0_ h0 qr qn qw qa qb qc qx, ar_ qr cA 20 u, ar_ qn cA 5 f2, ar_ qw cA 10 w1, ar_ qa cA 5 a2, ar_ qb cA 5 f5, ar_ qc cA 5 f6, ar_ qx cA 5 f7]) hx hb hml hown hts hK (m0_set l D cA h0 qr qn qw qa qb qc qx f1 a2 p0) (lw_V q75 q77 qs2 q11 q78) (by decide +kernel) rfl ⟨rfl, rfl⟩ ⟨Nat.le_of_ble_eq_true rfl, Nat.le_of_ble_eq_true rfl⟩ ⟨Nat.zero_le _, Nat.zero_le _⟩ hP hD hS hA [0, 1, 4] [2, 3, 5, 6, 7] [5, 6, 0, 1, 7, 2, 3, 4] rfl rfl rfl rfl (by decide) (by decide) (by decide) (by decide) (fun _ => rfl) hl.1 rfl (Nat.le_of_ble_eq_true rfl) dX0_square_15 (fun r1 H locs hs hP hD hS => ?_)
  have hP : va_P D wk_Cl [o0_ h0 qr qn qw qa qb qc qx, ar_ qr cA 20 r1, ar_ qn cA 5 f2, ar_ qw cA 10 w1, ar_ qa cA 5 a2, ar_ qb cA 5 f5, ar_ qc cA 5 f6, ar_ qx cA 5 f7] H := hP
  have hD : va_D A [o0_ h0 qr qn qw qa qb qc qx, ar_ qr cA 20 r1, ar_ qn cA 5 f2, ar_ qw cA 10 w1, ar_ qa cA 5 a2, ar_ qb cA 5 f5, ar_ qc cA 5 f6, ar_ qx cA 5 f7] := hD
  exact ret (r1, f2, w1, a2, f5, f6, f7) _ _ _ _ dX0_square_18 ⟨by rw [hs]; exact rgs_set hv h3 _, rfl, rfl⟩ hP hD hS
set_option maxHeartbeats 4000000 in
set_option maxRecDepth 100000 in
/-- squares(r, p, n) -/
theorem m0_squares (l : Launch) (D : va_G) (cA : ClassId) (h0 qr qn qw qa qb qc qx : Nat) (f1 f2 f3 f4 f5 f6 f7 : Nat → Int64) (v : Nat → gf_V) (hv : rgs_ f1 v) (p0 p1 p2 : Int32) : MetV_ l yX0_squares cX0_squares 4 (rm_ 3 66) D cA [.ref h0, .int p0, .int p1, .int p2] [o0_ h0 qr qn qw qa qb qc qx, ar_ qr cA 20 f1, ar_ qn cA 5 f2, ar_ qw cA 10 f3, ar_ qa cA 5 f4, ar_ qb cA 5 f5, ar_ qc cA 5 f6, ar_ qx cA 5 f7] (fun u : (Nat → Int64) × (Nat → Int64) × (Nat → Int64) × (Nat → Int64) × (Nat → Int64) × (Nat → Int64) × (Nat → Int64) => rgs_ u.1 (up_ v (rg_ p0) (gf_sqn (p2.toBitVec.toNat % 16 + 1) (v (rg_ p1)))) ∧ u.2.1 = f2 ∧ u.2.2.2.2.2.2 = f7) (fun u => [o0_ h0 qr qn qw qa qb qc qx, ar_ qr cA 20 u.1, ar_ qn cA 5 u.2.1, ar_ qw cA 10 u.2.2.1, ar_ qa cA 5 u.2.2.2.1, ar_ qb cA 5 u.2.2.2.2.1, ar_ qc cA 5 u.2.2.2.2.2.1, ar_ qx cA 5 u.2.2.2.2.2.2]) := by
  refine metV_of (by decide) (Nat.le_of_ble_eq_true rfl) ?_
  intro p e s m below meth c A Q hx hb hml hown hts hK hA ret ls hP hD hl
  have hown : s.vm.findClass "Field283" = some m.cls := hown
  have hS : va_S A s.heap s.heap [] := va_S.rf
  have hl : lv_has ls 4 [(0, .ref h0), (1, .int p0), (2, .int p1), (3, .int p2)] := hl
  refine lv_aload_n hx hb dX0_squares_0 rfl (lv_at hl 0 rfl) ?_
  refine lv_aload_n hx hb dX0_squares_1 rfl (lv_at hl 0 rfl) ?_
  refine va_get (D := D) (ci := 0) (v := .ref qa) (C := RX0) (T := TX0) (N := 7) hx hb hts in_X0 hown hK hP 0 rfl rfl 3 (by decide) (hts _ q43) (fun _ h9 => h9) rfl dX0_squares_2 ?_
  refine lv_iload_n hx hb dX0_squares_5 rfl (lv_at hl 2 rfl) ?_
  refine cv_V (ci := 0) (n := 2) (As := [.ref qa, .int p1]) (rest := []) (wr := [ar_ qn cA 5 f2, ar_ qw cA 10 f3, ar_ qb cA 5 f5, ar_ qc cA 5 f6, ar_ qx cA 5 f7]) (w2 := fun u : (Nat → Int64) => [o0_ h0 qr qn qw qa qb qc qx, ar_ qr cA 20 f1, ar_ qn cA 5 f2, ar_ qw cA 10 f3, ar_ qa cA 5 u, ar_ qb cA 5 f5, ar_ qc cA 5 f6, ar_ qx cA 5 f7]) hx hb hml hown hts hK (m0_get l D cA h0 qr qn qw qa qb qc qx qa f1 f4 p1) (lw_V q91 q93 qs3 q11 q94) (by decide +kernel) rfl ⟨rfl, rfl⟩ ⟨Nat.le_of_ble_eq_true rfl, Nat.le_of_ble_eq_true rfl⟩ ⟨Nat.zero_le _, Nat.zero_le _⟩ hP hD hS hA [0, 1, 4] [2, 3, 5, 6, 7] [5, 6, 0, 1, 7, 2, 3, 4] rfl rfl rfl rfl (by decide) (by decide) (by decide) (by decide) (fun _ => rfl) hl.1 rfl (Nat.le_of_ble_eq_true rfl) dX0_squares_6 (fun a1 H locs h1 hP hD hS => ?_)
  have hP : va_P D wk_Cl [o0_ h0 qr qn qw qa qb qc qx, ar_ qr cA 20 f1, ar_ qn cA 5 f2, ar_ qw cA 10 f3, ar_ qa cA 5 a1, ar_ qb cA 5 f5, ar_ qc cA 5 f6, ar_ qx cA 5 f7] H := hP
  have hD : va_D A [o0_ h0 qr qn qw qa qb qc qx, ar_ qr cA 20 f1, ar_ qn cA 5 f2, ar_ qw cA 10 f3, ar_ qa cA 5 a1, ar_ qb cA 5 f5, ar_ qc cA 5 f6, ar_ qx cA 5 f7] := hD
  refine lv_aload_n hx hb dX0_squares_9 rfl (lv_at hl 0 rfl) ?_
  refine lv_iload_n hx hb dX0_squares_10 rfl (lv_at hl 3 rfl) ?_
  refine lv_bipush (v := nI 15) hx hb dX0_squares_11 (by decide) ?_
  refine lv_iand hx hb dX0_squares_13 ?_
  refine ti_ (nI (p2.toBitVec.toNat % 16)) (pk_and _ 4 (by decide +kernel)) ?_
  refine lv_iconst (v := nI 1) hx hb dX0_squares_14 (by decide) ?_
  refine lv_iadd hx hb dX0_squares_15 ?_
  refine ti_ (nI (p2.toBitVec.toNat % 16 + 1)) (nI_add _ _) ?_
  refine cv_V (ci := 0) (n := 1) (As := [.int (nI (p2.toBitVec.toNat % 16 + 1))]) (rest := []) (wr := [ar_ qr cA 20 f1, ar_ qn cA 5 f2, ar_ qb cA 5 f5, ar_ qc cA 5 f6, ar_ qx cA 5 f7]) (w2 := fun u : (Nat → Int64) × (Nat → Int64) => [o0_ h0 qr qn qw qa qb qc qx, ar_ qr cA 20 f1, ar_ qn cA 5 f2, ar_ qw cA 10 u.1, ar_ qa cA 5 u.2, ar_ qb cA 5 f5, ar_ qc cA 5 f6, ar_ qx cA 5 f7]) hx hb hml hown hts hK (m0_often l D cA h0 qr qn qw qa qb qc qx f3 a1 _ (rgs_get hv p1 h1) (p2.toBitVec.toNat % 16 + 1) (by omega)) (lw_V q123 q125 qs5 q11 q126) (by decide +kernel) rfl ⟨rfl, rfl⟩ ⟨Nat.le_of_ble_eq_true rfl, Nat.le_of_ble_eq_true rfl⟩ ⟨Nat.zero_le _, Nat.zero_le _⟩ hP hD hS hA [0, 3, 4] [1, 2, 5, 6, 7] [5, 0, 1, 6, 7, 2, 3, 4] rfl rfl rfl rfl (by decide) (by decide) (by decide) (by decide) (fun _ => rfl) hl.1 rfl (Nat.le_of_ble_eq_true rfl) dX0_squares_16 (fun u H locs h3 hP hD hS => ?_)
  obtain ⟨w1, a2⟩ := u
  have hP : va_P D wk_Cl [o0_ h0 qr qn qw qa qb qc qx, ar_ qr cA 20 f1, ar_ qn cA 5 f2, ar_ qw cA 10 w1, ar_ qa cA 5 a2, ar_ qb cA 5 f5, ar_ qc cA 5 f6, ar_ qx cA 5 f7] H := hP
  have hD : va_D A [o0_ h0 qr qn qw qa qb qc qx, ar_ qr cA 20 f1, ar_ qn cA 5 f2, ar_ qw cA 10 w1, ar_ qa cA 5 a2, ar_ qb cA 5 f5, ar_ qc cA 5 f6, ar_ qx cA 5 f7] := hD
  refine lv_aload_n hx hb dX0_squares_19 rfl (lv_at hl 0 rfl) ?_
  refine lv_iload_n hx hb dX0_squares_20 rfl (lv_at hl 1 rfl) ?_
  refine cv_V (ci := 0) (n := 1) (As := [.int p0]) (rest := []) (wr := [ar_ qn cA 5 f2, ar_ qw cA 10 w1, ar_ qb cA 5 f5, ar_ qc cA 5 f6, ar_ qx cA 5 f7]) (w2 := fun u : (Nat → Int64) => [o0_ h0 qr qn qw qa qb qc qx, ar_ qr cA 20 u, ar_ qn cA 5 f2, ar_ qw cA 10 w1, ar_ qa cA 5 a2, ar_ qb cA 5 f5, ar_ qc cA 5 f6, ar_ qx cA 5 f7]) hx hb hml hown hts hK (m0_set l D cA h0 qr qn qw qa qb qc qx f1 a2 p0) (lw_V q75 q77 qs2 q11 q78) (by decide +kernel) rfl ⟨rfl, rfl⟩ ⟨Nat.le_of_ble_eq_true rfl, Nat.le_of_ble_eq_true rfl⟩ ⟨Nat.zero_le _, Nat.zero_le _⟩ hP hD hS hA [0, 1, 4] [2, 3, 5, 6, 7] [5, 6, 0, 1, 7, 2, 3, 4] rfl rfl rfl rfl (by decide) (by decide) (by decide) (by decide) (fun _ => rfl) hl.1 rfl (Nat.le_of_ble_eq_true rfl) dX0_squares_21 (fun r1 H locs hs hP hD hS => ?_)
  have hP : va_P D wk_Cl [o0_ h0 qr qn qw qa qb qc qx, ar_ qr cA 20 r1, ar_ qn cA 5 f2, ar_ qw cA 10 w1, ar_ qa cA 5 a2, ar_ qb cA 5 f5, ar_ qc cA 5 f6, ar_ qx cA 5 f7] H := hP
  have hD : va_D A [o0_ h0 qr qn qw qa qb qc qx, ar_ qr cA 20 r1, ar_ qn cA 5 f2, ar_ qw cA 10 w1, ar_ qa cA 5 a2, ar_ qb cA 5 f5, ar_ qc cA 5 f6, ar_ qx cA 5 f7] := hD
  exact ret (r1, f2, w1, a2, f5, f6, f7) _ _ _ _ dX0_squares_24 ⟨by rw [hs]; exact rgs_set hv h3 _, rfl, rfl⟩ hP hD hS
end
section
set_option maxHeartbeats 4000000 in
set_option maxRecDepth 100000 in
/-- root(r, p) -/
theorem m0_root (l : Launch) (D : va_G) (cA : ClassId) (h0 qr qn qw qa qb qc qx : Nat) (f1 f2 f3 f4 f5 f6 f7 : Nat → Int64) (v : Nat → gf_V) (hv : rgs_ f1 v) (h7 : rp_ f7 gf_root) (p0 p1 : Int32) : MetV_ l yX0_root cX0_root 4 (rm_ 2 56) D cA [.ref h0, .int p0, .int p1] [o0_ h0 qr qn qw qa qb qc qx, ar_ qr cA 20 f1, ar_ qn cA 5 f2, ar_ qw cA 10 f3, ar_ qa cA 5 f4, ar_ qb cA 5 f5, ar_ qc cA 5 f6, ar_ qx cA 5 f7] (fun u : (Nat → Int64) × (Nat → Int64) × (Nat → Int64) × (Nat → Int64) × (Nat → Int64) × (Nat → Int64) × (Nat → Int64) => rgs_ u.1 (up_ v (rg_ p0) (gf_sqn 282 (v (rg_ p1)))) ∧ u.2.1 = f2 ∧ u.2.2.2.2.2.2 = f7) (fun u => [o0_ h0 qr qn qw qa qb qc qx, ar_ qr cA 20 u.1, ar_ qn cA 5 u.2.1, ar_ qw cA 10 u.2.2.1, ar_ qa cA 5 u.2.2.2.1, ar_ qb cA 5 u.2.2.2.2.1, ar_ qc cA 5 u.2.2.2.2.2.1, ar_ qx cA 5 u.2.2.2.2.2.2]) := by
  refine metV_of (by decide) (Nat.le_of_ble_eq_true rfl) ?_
  intro p e s m below meth c A Q hx hb hml hown hts hK hA ret ls hP hD hl
  have hown : s.vm.findClass "Field283" = some m.cls := hown
  have hS : va_S A s.heap s.heap [] := va_S.rf
  have hl : lv_has ls 4 [(0, .ref h0), (1, .int p0), (2, .int p1)] := hl
  have lq : ∀ k, k < 5 → ¬ nI 5 ≤ nI k := by decide +kernel
  refine lv_aload_n hx hb dX0_root_0 rfl (lv_at hl 0 rfl) ?_
  refine lv_aload_n hx hb dX0_root_1 rfl (lv_at hl 0 rfl) ?_
  refine va_get (D := D) (ci := 0) (v := .ref qc) (C := RX0) (T := TX0) (N := 7) hx hb hts in_X0 hown hK hP 0 rfl rfl 5 (by decide) (hts _ q45) (fun _ h9 => h9) rfl dX0_root_2 ?_
  refine lv_iload_n hx hb dX0_root_5 rfl (lv_at hl 2 rfl) ?_
  refine cv_V (ci := 0) (n := 2) (As := [.ref qc, .int p1]) (rest := []) (wr := [ar_ qn cA 5 f2, ar_ qw cA 10 f3, ar_ qa cA 5 f4, ar_ qb cA 5 f5, ar_ qx cA 5 f7]) (w2 := fun u : (Nat → Int64) => [o0_ h0 qr qn qw qa qb qc qx, ar_ qr cA 20 f1, ar_ qn cA 5 f2, ar_ qw cA 10 f3, ar_ qa cA 5 f4, ar_ qb cA 5 f5, ar_ qc cA 5 u, ar_ qx cA 5 f7]) hx hb hml hown hts hK (m0_get l D cA h0 qr qn qw qa qb qc qx qc f1 f6 p1) (lw_V q91 q93 qs3 q11 q94) (by decide +kernel) rfl ⟨rfl, rfl⟩ ⟨Nat.le_of_ble_eq_true rfl, Nat.le_of_ble_eq_true rfl⟩ ⟨Nat.zero_le _, Nat.zero_le _⟩ hP hD hS hA [0, 1, 6] [2, 3, 4, 5, 7] [5, 6, 0, 1, 2, 3, 7, 4] rfl rfl rfl rfl (by decide) (by decide) (by decide) (by decide) (fun _ => rfl) hl.1 rfl (Nat.le_of_ble_eq_true rfl) dX0_root_6 (fun c1 H locs h1 hP hD hS => ?_)
  have hP : va_P D wk_Cl [o0_ h0 qr qn qw qa qb qc qx, ar_ qr cA 20 f1, ar_ qn cA 5 f2, ar_ qw cA 10 f3, ar_ qa cA 5 f4, ar_ qb cA 5 f5, ar_ qc cA 5 c1, ar_ qx cA 5 f7] H := hP
  have hD : va_D A [o0_ h0 qr qn qw qa qb qc qx, ar_ qr cA 20 f1, ar_ qn cA 5 f2, ar_ qw cA 10 f3, ar_ qa cA 5 f4, ar_ qb cA 5 f5, ar_ qc cA 5 c1, ar_ qx cA 5 f7] := hD
  refine lv_iconst (v := nI 0) hx hb dX0_root_9 (by decide) ?_
  refine lv_istore_n (lv' := [(3, .int (nI 0)), (0, .ref h0), (1, .int p0), (2, .int p1)]) hx hb dX0_root_10 rfl hl (by decide) rfl (fun ls hl => ?_)
  have lp : ∀ (n k : Nat), k + n = 5 → ∀ (H : Heap) (locs : List Loc) (ls : Array Slot), va_P D wk_Cl [o0_ h0 qr qn qw qa qb qc qx, ar_ qr cA 20 f1, ar_ qn cA 5 f2, ar_ qw cA 10 f3, ar_ qa cA 5 (f0_ f4 (fun _ => 0) k), ar_ qb cA 5 (f0_ f5 (fun _ => 0) k), ar_ qc cA 5 c1, ar_ qx cA 5 f7] H → va_D A [o0_ h0 qr qn qw qa qb qc qx, ar_ qr cA 20 f1, ar_ qn cA 5 f2, ar_ qw cA 10 f3, ar_ qa cA 5 (f0_ f4 (fun _ => 0) k), ar_ qb cA 5 (f0_ f5 (fun _ => 0) k), ar_ qc cA 5 c1, ar_ qx cA 5 f7] → va_S A s.heap H locs → lv_has ls 4 [(3, .int (nI k)), (0, .ref h0), (1, .int p0), (2, .int p1)] → W p l e (rm_ 2 56) s m ([.ref h0, .int p0, .int p1] : List Value).toArray below meth c H locs 0 0 Q (F0 m 11 ls []) := by
    intro n
    induction n with
    | zero =>
      intro k hkk H locs ls hP hD hS hl
      obtain rfl : k = 5 := by omega
      refine lv_iload_n hx hb dX0_root_11 rfl (lv_at hl 0 rfl) ?_
      refine lv_iconst (v := nI 5) hx hb dX0_root_12 (by decide) ?_
      refine lv_icmp_ge (tgt := 36) hx hb dX0_root_13 (by decide) (fun _ => ?_) (fun hc => absurd (by decide) hc)
      refine lv_iconst (v := nI 0) hx hb dX0_root_36 (by decide) ?_
      refine lv_istore_n (lv' := [(3, .int (nI 0)), (0, .ref h0), (1, .int p0), (2, .int p1)]) hx hb dX0_root_37 rfl hl (by decide) rfl (fun ls hl => ?_)
      have l2 : ∀ (n k : Nat), k + n = 5 → ∀ (H : Heap) (locs : List Loc) (ls : Array Slot), va_P D wk_Cl [o0_ h0 qr qn qw qa qb qc qx, ar_ qr cA 20 f1, ar_ qn cA 5 f2, ar_ qw cA 10 f3, ar_ qa cA 5 (rt_lp (fun x => ga_f (wd_sr x 1)) c1 (f0_ f4 (fun _ => 0) 5) k), ar_ qb cA 5 (rt_lp ga_f c1 (f0_ f5 (fun _ => 0) 5) k), ar_ qc cA 5 c1, ar_ qx cA 5 f7] H → va_D A [o0_ h0 qr qn qw qa qb qc qx, ar_ qr cA 20 f1, ar_ qn cA 5 f2, ar_ qw cA 10 f3, ar_ qa cA 5 (rt_lp (fun x => ga_f (wd_sr x 1)) c1 (f0_ f4 (fun _ => 0) 5) k), ar_ qb cA 5 (rt_lp ga_f c1 (f0_ f5 (fun _ => 0) 5) k), ar_ qc cA 5 c1, ar_ qx cA 5 f7] → va_S A s.heap H locs → lv_has ls 4 [(3, .int (nI k)), (0, .ref h0), (1, .int p0), (2, .int p1)] → W p l e (rm_ 2 56) s m ([.ref h0, .int p0, .int p1] : List Value).toArray below meth c H locs 0 0 Q (F0 m 38 ls []) := by
        intro n
        induction n with
        | zero =>
          intro k hkk H locs ls hP hD hS hl
          obtain rfl : k = 5 := by omega
          refine lv_iload_n hx hb dX0_root_38 rfl (lv_at hl 0 rfl) ?_
          refine lv_iconst (v := nI 5) hx hb dX0_root_39 (by decide) ?_
          refine lv_icmp_ge (tgt := 105) hx hb dX0_root_40 (by decide) (fun _ => ?_) (fun hc => absurd (by decide) hc)
          obtain ⟨E, hE, hE2⟩ := rt_half ga_f 0 (by decide) rt_ga c1 (f0_ f5 (fun _ => 0) 5) (fun k hk => f0_in f5 (fun _ => 0) 5 k hk) (rgs_get hv p1 h1)
          obtain ⟨O, hO, hO2⟩ := rt_half (fun x => ga_f (wd_sr x 1)) 1 (by decide) rt_gb c1 (f0_ f4 (fun _ => 0) 5) (fun k hk => f0_in f4 (fun _ => 0) 5 k hk) (rgs_get hv p1 h1)
          refine lv_aload_n hx hb dX0_root_105 rfl (lv_at hl 1 rfl) ?_
          refine lv_aload_n hx hb dX0_root_106 rfl (lv_at hl 1 rfl) ?_
          refine va_get (D := D) (ci := 0) (v := .ref qx) (C := RX0) (T := TX0) (N := 7) hx hb hts in_X0 hown hK hP 0 rfl rfl 6 (by decide) (hts _ q46) (fun _ h9 => h9) rfl dX0_root_107 ?_
          refine cv_V (ci := 0) (n := 1) (As := [.ref qx]) (rest := []) (wr := [ar_ qr cA 20 f1, ar_ qn cA 5 f2, ar_ qb cA 5 (rt_lp ga_f c1 (f0_ f5 (fun _ => 0) 5) 5), ar_ qc cA 5 c1]) (w2 := fun u : (Nat → Int64) × (Nat → Int64) => [o0_ h0 qr qn qw qa qb qc qx, ar_ qr cA 20 f1, ar_ qn cA 5 f2, ar_ qw cA 10 u.1, ar_ qa cA 5 u.2, ar_ qb cA 5 (rt_lp ga_f c1 (f0_ f5 (fun _ => 0) 5) 5), ar_ qc cA 5 c1, ar_ qx cA 5 f7]) hx hb hml hown hts hK (m0_times l D cA h0 qr qn qw qa qb qc qx qx f3 (rt_lp (fun x => ga_f (wd_sr x 1)) c1 (f0_ f4 (fun _ => 0) 5) 5) f7 _ _ hO h7) (lw_V q103 q105 qs4 q11 q106) (by decide +kernel) rfl ⟨rfl, rfl⟩ ⟨Nat.le_of_ble_eq_true rfl, Nat.le_of_ble_eq_true rfl⟩ ⟨Nat.zero_le _, Nat.zero_le _⟩ hP hD hS hA [0, 3, 4, 7] [1, 2, 5, 6] [4, 0, 1, 5, 6, 2, 3, 7] rfl rfl rfl rfl (by decide) (by decide) (by decide) (by decide) (fun _ => rfl) hl.1 rfl (Nat.le_of_ble_eq_true rfl) dX0_root_110 (fun u H locs h3 hP hD hS => ?_)
          obtain ⟨w1, a2⟩ := u
          have hP : va_P D wk_Cl [o0_ h0 qr qn qw qa qb qc qx, ar_ qr cA 20 f1, ar_ qn cA 5 f2, ar_ qw cA 10 w1, ar_ qa cA 5 a2, ar_ qb cA 5 (rt_lp ga_f c1 (f0_ f5 (fun _ => 0) 5) 5), ar_ qc cA 5 c1, ar_ qx cA 5 f7] H := hP
          have hD : va_D A [o0_ h0 qr qn qw qa qb qc qx, ar_ qr cA 20 f1, ar_ qn cA 5 f2, ar_ qw cA 10 w1, ar_ qa cA 5 a2, ar_ qb cA 5 (rt_lp ga_f c1 (f0_ f5 (fun _ => 0) 5) 5), ar_ qc cA 5 c1, ar_ qx cA 5 f7] := hD
          refine lv_iconst (v := nI 0) hx hb dX0_root_113 (by decide) ?_
          refine lv_istore_n (lv' := [(3, .int (nI 0)), (0, .ref h0), (1, .int p0), (2, .int p1)]) hx hb dX0_root_114 rfl hl (by decide) rfl (fun ls hl => ?_)
          have l3 : ∀ (n k : Nat), k + n = 5 → ∀ (H : Heap) (locs : List Loc) (ls : Array Slot), va_P D wk_Cl [o0_ h0 qr qn qw qa qb qc qx, ar_ qr cA 20 f1, ar_ qn cA 5 f2, ar_ qw cA 10 w1, ar_ qa cA 5 (f0_ a2 (fun k => a2 k ^^^ (rt_lp ga_f c1 (f0_ f5 (fun _ => 0) 5) 5) k) k), ar_ qb cA 5 (rt_lp ga_f c1 (f0_ f5 (fun _ => 0) 5) 5), ar_ qc cA 5 c1, ar_ qx cA 5 f7] H → va_D A [o0_ h0 qr qn qw qa qb qc qx, ar_ qr cA 20 f1, ar_ qn cA 5 f2, ar_ qw cA 10 w1, ar_ qa cA 5 (f0_ a2 (fun k => a2 k ^^^ (rt_lp ga_f c1 (f0_ f5 (fun _ => 0) 5) 5) k) k), ar_ qb cA 5 (rt_lp ga_f c1 (f0_ f5 (fun _ => 0) 5) 5), ar_ qc cA 5 c1, ar_ qx cA 5 f7] → va_S A s.heap H locs → lv_has ls 4 [(3, .int (nI k)), (0, .ref h0), (1, .int p0), (2, .int p1)] → W p l e (rm_ 2 56) s m ([.ref h0, .int p0, .int p1] : List Value).toArray below meth c H locs 0 0 Q (F0 m 115 ls []) := by
            intro n
            induction n with
            | zero =>
              intro k hkk H locs ls hP hD hS hl
              obtain rfl : k = 5 := by omega
              refine lv_iload_n hx hb dX0_root_115 rfl (lv_at hl 0 rfl) ?_
              refine lv_iconst (v := nI 5) hx hb dX0_root_116 (by decide) ?_
              refine lv_icmp_ge (tgt := 141) hx hb dX0_root_117 (by decide) (fun _ => ?_) (fun hc => absurd (by decide) hc)
              refine lv_aload_n hx hb dX0_root_141 rfl (lv_at hl 1 rfl) ?_
              refine lv_iload_n hx hb dX0_root_142 rfl (lv_at hl 2 rfl) ?_
              refine cv_V (ci := 0) (n := 1) (As := [.int p0]) (rest := []) (wr := [ar_ qn cA 5 f2, ar_ qw cA 10 w1, ar_ qb cA 5 (rt_lp ga_f c1 (f0_ f5 (fun _ => 0) 5) 5), ar_ qc cA 5 c1, ar_ qx cA 5 f7]) (w2 := fun u : (Nat → Int64) => [o0_ h0 qr qn qw qa qb qc qx, ar_ qr cA 20 u, ar_ qn cA 5 f2, ar_ qw cA 10 w1, ar_ qa cA 5 (f0_ a2 (fun k => a2 k ^^^ (rt_lp ga_f c1 (f0_ f5 (fun _ => 0) 5) 5) k) 5), ar_ qb cA 5 (rt_lp ga_f c1 (f0_ f5 (fun _ => 0) 5) 5), ar_ qc cA 5 c1, ar_ qx cA 5 f7]) hx hb hml hown hts hK (m0_set l D cA h0 qr qn qw qa qb qc qx f1 (f0_ a2 (fun k => a2 k ^^^ (rt_lp ga_f c1 (f0_ f5 (fun _ => 0) 5) 5) k) 5) p0) (lw_V q75 q77 qs2 q11 q78) (by decide +kernel) rfl ⟨rfl, rfl⟩ ⟨Nat.le_of_ble_eq_true rfl, Nat.le_of_ble_eq_true rfl⟩ ⟨Nat.zero_le _, Nat.zero_le _⟩ hP hD hS hA [0, 1, 4] [2, 3, 5, 6, 7] [5, 6, 0, 1, 7, 2, 3, 4] rfl rfl rfl rfl (by decide) (by decide) (by decide) (by decide) (fun _ => rfl) hl.1 rfl (Nat.le_of_ble_eq_true rfl) dX0_root_143 (fun r1 H locs hs hP hD hS => ?_)
              have hP : va_P D wk_Cl [o0_ h0 qr qn qw qa qb qc qx, ar_ qr cA 20 r1, ar_ qn cA 5 f2, ar_ qw cA 10 w1, ar_ qa cA 5 (f0_ a2 (fun k => a2 k ^^^ (rt_lp ga_f c1 (f0_ f5 (fun _ => 0) 5) 5) k) 5), ar_ qb cA 5 (rt_lp ga_f c1 (f0_ f5 (fun _ => 0) 5) 5), ar_ qc cA 5 c1, ar_ qx cA 5 f7] H := hP
              have hD : va_D A [o0_ h0 qr qn qw qa qb qc qx, ar_ qr cA 20 r1, ar_ qn cA 5 f2, ar_ qw cA 10 w1, ar_ qa cA 5 (f0_ a2 (fun k => a2 k ^^^ (rt_lp ga_f c1 (f0_ f5 (fun _ => 0) 5) 5) k) 5), ar_ qb cA 5 (rt_lp ga_f c1 (f0_ f5 (fun _ => 0) 5) 5), ar_ qc cA 5 c1, ar_ qx cA 5 f7] := hD
              exact ret (r1, f2, w1, f0_ a2 (fun k => a2 k ^^^ (rt_lp ga_f c1 (f0_ f5 (fun _ => 0) 5) 5) k) 5, rt_lp ga_f c1 (f0_ f5 (fun _ => 0) 5) 5, c1, f7) _ _ _ _ dX0_root_146 ⟨by rw [hs]; exact rgs_set hv (rt_eq hE2 hO2 ▸ rp_congr (rp_xor h3 hE) (fun k hk => f0_in a2 (fun k => a2 k ^^^ (rt_lp ga_f c1 (f0_ f5 (fun _ => 0) 5) 5) k) 5 k hk)) _, rfl, rfl⟩ hP hD hS
            | succ n ih =>
              intro k hkk H locs ls hP hD hS hl
              have hk : k < 5 := by omega
              refine lv_iload_n hx hb dX0_root_115 rfl (lv_at hl 0 rfl) ?_
              refine lv_iconst (v := nI 5) hx hb dX0_root_116 (by decide) ?_
              refine lv_icmp_ge (tgt := 141) hx hb dX0_root_117 (by decide) (fun hc => absurd hc (lq k hk)) (fun _ => ?_)
              refine lv_aload_n hx hb dX0_root_120 rfl (lv_at hl 1 rfl) ?_
              refine va_get (D := D) (ci := 0) (v := .ref qa) (C := RX0) (T := TX0) (N := 7) hx hb hts in_X0 hown hK hP 0 rfl rfl 3 (by decide) (hts _ q43) (fun _ h9 => h9) rfl dX0_root_121 ?_
              refine lv_iload_n hx hb dX0_root_124 rfl (lv_at hl 0 rfl) ?_
              refine lv_dup2_11 hx hb dX0_root_125 rfl rfl ?_
              refine la_ (v := a2 k) hx hb hK hP 4 rfl k rfl (by omega) (by decide) (f0_out a2 _ k k (Nat.le_refl k)) dX0_root_126 ?_
              refine lv_aload_n hx hb dX0_root_127 rfl (lv_at hl 1 rfl) ?_
              refine va_get (D := D) (ci := 0) (v := .ref qb) (C := RX0) (T := TX0) (N := 7) hx hb hts in_X0 hown hK hP 0 rfl rfl 4 (by decide) (hts _ q44) (fun _ h9 => h9) rfl dX0_root_128 ?_
              refine lv_iload_n hx hb dX0_root_131 rfl (lv_at hl 0 rfl) ?_
              refine la_ (v := (rt_lp ga_f c1 (f0_ f5 (fun _ => 0) 5) 5) k) hx hb hK hP 5 rfl k rfl (by omega) (by decide) rfl dX0_root_132 ?_
              refine lv_lxor hx hb dX0_root_133 ?_
              refine st_ hx hb hK hP hD hS 4 rfl k rfl (by omega) (by decide) dX0_root_134 (fun g_1 H locs hg_1 hP hD hS => ?_)
              obtain rfl : g_1 = f0_ a2 (fun k => a2 k ^^^ (rt_lp ga_f c1 (f0_ f5 (fun _ => 0) 5) 5) k) (k + 1) := hg_1
              have hP : va_P D wk_Cl [o0_ h0 qr qn qw qa qb qc qx, ar_ qr cA 20 f1, ar_ qn cA 5 f2, ar_ qw cA 10 w1, ar_ qa cA 5 (f0_ a2 (fun k => a2 k ^^^ (rt_lp ga_f c1 (f0_ f5 (fun _ => 0) 5) 5) k) (k + 1)), ar_ qb cA 5 (rt_lp ga_f c1 (f0_ f5 (fun _ => 0) 5) 5), ar_ qc cA 5 c1, ar_ qx cA 5 f7] H := hP
              have hD : va_D A [o0_ h0 qr qn qw qa qb qc qx, ar_ qr cA 20 f1, ar_ qn cA 5 f2, ar_ qw cA 10 w1, ar_ qa cA 5 (f0_ a2 (fun k => a2 k ^^^ (rt_lp ga_f c1 (f0_ f5 (fun _ => 0) 5) 5) k) (k + 1)), ar_ qb cA 5 (rt_lp ga_f c1 (f0_ f5 (fun _ => 0) 5) 5), ar_ qc cA 5 c1, ar_ qx cA 5 f7] := hD
              refine lv_iinc (v := nI (k + 1)) (lv' := [(3, .int (nI (k + 1))), (0, .ref h0), (1, .int p0), (2, .int p1)]) hx hb dX0_root_135 hl (k := 0) rfl (ii_1 _) (by decide) rfl (fun ls hl => ?_)
              refine lv_goto (tgt := 115) hx hb dX0_root_138 (by decide) ?_
              exact ih (k + 1) (by omega) _ _ _ hP hD hS (lv_sub hl [0, 1, 2, 3] rfl)
          exact l3 5 0 rfl _ _ _ hP hD hS (lv_sub hl [0, 1, 2, 3] rfl)
        | succ n ih =>
          intro k hkk H locs ls hP hD hS hl
          have hk : k < 5 := by omega
          refine lv_iload_n hx hb dX0_root_38 rfl (lv_at hl 0 rfl) ?_
          refine lv_iconst (v := nI 5) hx hb dX0_root_39 (by decide) ?_
          refine lv_icmp_ge (tgt := 105) hx hb dX0_root_40 (by decide) (fun hc => absurd hc (lq k hk)) (fun _ => ?_)
          refine lv_aload_n hx hb dX0_root_43 rfl (lv_at hl 1 rfl) ?_
          refine va_get (D := D) (ci := 0) (v := .ref qb) (C := RX0) (T := TX0) (N := 7) hx hb hts in_X0 hown hK hP 0 rfl rfl 4 (by decide) (hts _ q44) (fun _ h9 => h9) rfl dX0_root_44 ?_
          refine lv_iload_n hx hb dX0_root_47 rfl (lv_at hl 0 rfl) ?_
          refine lv_iconst (v := nI 2) hx hb dX0_root_48 (by decide) ?_
          refine lv_idiv hx hb dX0_root_49 (by decide) ?_
          refine ti_ (nI (k / 2)) (pk_div (by omega) (by decide) (by decide)) ?_
          refine lv_dup2_11 hx hb dX0_root_50 rfl rfl ?_
          refine la_ (v := (rt_lp ga_f c1 (f0_ f5 (fun _ => 0) 5) k) (k / 2)) hx hb hK hP 5 rfl (k / 2) rfl (by omega) (by decide) rfl dX0_root_51 ?_
          refine lv_aload_n hx hb dX0_root_52 rfl (lv_at hl 1 rfl) ?_
          refine va_get (D := D) (ci := 0) (v := .ref qc) (C := RX0) (T := TX0) (N := 7) hx hb hts in_X0 hown hK hP 0 rfl rfl 5 (by decide) (hts _ q45) (fun _ h9 => h9) rfl dX0_root_53 ?_
          refine lv_iload_n hx hb dX0_root_56 rfl (lv_at hl 0 rfl) ?_
          refine la_ (v := c1 k) hx hb hK hP 6 rfl k rfl (by omega) (by decide) rfl dX0_root_57 ?_
          refine cs_l (v := ga_f (c1 k)) (n := 1) (As := [.long (c1 k)]) (rest := [.long ((rt_lp ga_f c1 (f0_ f5 (fun _ => 0) 5) k) (k / 2)), .int (nI (k / 2)), .ref qb]) hx hb hml hown hts hK (m0_gathered l D cA (c1 k)) (lw_S q131 q132 q11 q133) (by decide +kernel) rfl ⟨rfl, rfl⟩ ⟨Nat.le_of_ble_eq_true rfl, Nat.le_of_ble_eq_true rfl⟩ ⟨Nat.zero_le _, Nat.zero_le _⟩ hP hD hS hA hl.1 rfl (Nat.le_of_ble_eq_true rfl) dX0_root_58 (fun H locs hP hS => ?_)
          refine lv_bipush (v := nI 32) hx hb dX0_root_61 (by decide) ?_
          refine lv_iload_n hx hb dX0_root_63 rfl (lv_at hl 0 rfl) ?_
          refine lv_iconst (v := nI 1) hx hb dX0_root_64 (by decide) ?_
          refine lv_iand hx hb dX0_root_65 ?_
          refine ti_ (nI (k % 2)) (pk_andN (by omega) 1 (by decide +kernel)) ?_
          refine lv_imul hx hb dX0_root_66 ?_
          refine ti_ (nI (32 * (k % 2))) (pk_mul _ _) ?_
          refine lv_lshl (v := wd_sl (ga_f (c1 k)) (32 * (k % 2))) hx hb dX0_root_67 (sh_l _ _ (by omega)) ?_
          refine lv_lor hx hb dX0_root_68 ?_
          refine st_ hx hb hK hP hD hS 5 rfl (k / 2) rfl (by omega) (by decide) dX0_root_69 (fun g_2 H locs hg_2 hP hD hS => ?_)
          obtain rfl : g_2 = rt_lp ga_f c1 (f0_ f5 (fun _ => 0) 5) (k + 1) := hg_2
          have hP : va_P D wk_Cl [o0_ h0 qr qn qw qa qb qc qx, ar_ qr cA 20 f1, ar_ qn cA 5 f2, ar_ qw cA 10 f3, ar_ qa cA 5 (rt_lp (fun x => ga_f (wd_sr x 1)) c1 (f0_ f4 (fun _ => 0) 5) k), ar_ qb cA 5 (rt_lp ga_f c1 (f0_ f5 (fun _ => 0) 5) (k + 1)), ar_ qc cA 5 c1, ar_ qx cA 5 f7] H := hP
          have hD : va_D A [o0_ h0 qr qn qw qa qb qc qx, ar_ qr cA 20 f1, ar_ qn cA 5 f2, ar_ qw cA 10 f3, ar_ qa cA 5 (rt_lp (fun x => ga_f (wd_sr x 1)) c1 (f0_ f4 (fun _ => 0) 5) k), ar_ qb cA 5 (rt_lp ga_f c1 (f0_ f5 (fun _ => 0) 5) (k + 1)), ar_ qc cA 5 c1, ar_ qx cA 5 f7] := hD
          refine lv_aload_n hx hb dX0_root_70 rfl (lv_at hl 1 rfl) ?_
          refine va_get (D := D) (ci := 0) (v := .ref qa) (C := RX0) (T := TX0) (N := 7) hx hb hts in_X0 hown hK hP 0 rfl rfl 3 (by decide) (hts _ q43) (fun _ h9 => h9) rfl dX0_root_71 ?_
          refine lv_iload_n hx hb dX0_root_74 rfl (lv_at hl 0 rfl) ?_
          refine lv_iconst (v := nI 2) hx hb dX0_root_75 (by decide) ?_
          refine lv_idiv hx hb dX0_root_76 (by decide) ?_
          refine ti_ (nI (k / 2)) (pk_div (by omega) (by decide) (by decide)) ?_
          refine lv_dup2_11 hx hb dX0_root_77 rfl rfl ?_
          refine la_ (v := (rt_lp (fun x => ga_f (wd_sr x 1)) c1 (f0_ f4 (fun _ => 0) 5) k) (k / 2)) hx hb hK hP 4 rfl (k / 2) rfl (by omega) (by decide) rfl dX0_root_78 ?_
          refine lv_aload_n hx hb dX0_root_79 rfl (lv_at hl 1 rfl) ?_
          refine va_get (D := D) (ci := 0) (v := .ref qc) (C := RX0) (T := TX0) (N := 7) hx hb hts in_X0 hown hK hP 0 rfl rfl 5 (by decide) (hts _ q45) (fun _ h9 => h9) rfl dX0_root_80 ?_
          refine lv_iload_n hx hb dX0_root_83 rfl (lv_at hl 0 rfl) ?_
          refine la_ (v := c1 k) hx hb hK hP 6 rfl k rfl (by omega) (by decide) rfl dX0_root_84 ?_
          refine lv_iconst (v := nI 1) hx hb dX0_root_85 (by decide) ?_
          refine lv_lushr (v := wd_sr (c1 k) 1) hx hb dX0_root_86 (sh_r _ _ (by decide)) ?_
          refine cs_l (v := ga_f (wd_sr (c1 k) 1)) (n := 1) (As := [.long (wd_sr (c1 k) 1)]) (rest := [.long ((rt_lp (fun x => ga_f (wd_sr x 1)) c1 (f0_ f4 (fun _ => 0) 5) k) (k / 2)), .int (nI (k / 2)), .ref qa]) hx hb hml hown hts hK (m0_gathered l D cA (wd_sr (c1 k) 1)) (lw_S q131 q132 q11 q133) (by decide +kernel) rfl ⟨rfl, rfl⟩ ⟨Nat.le_of_ble_eq_true rfl, Nat.le_of_ble_eq_true rfl⟩ ⟨Nat.zero_le _, Nat.zero_le _⟩ hP hD hS hA hl.1 rfl (Nat.le_of_ble_eq_true rfl) dX0_root_87 (fun H locs hP hS => ?_)
          refine lv_bipush (v := nI 32) hx hb dX0_root_90 (by decide) ?_
          refine lv_iload_n hx hb dX0_root_92 rfl (lv_at hl 0 rfl) ?_
          refine lv_iconst (v := nI 1) hx hb dX0_root_93 (by decide) ?_
          refine lv_iand hx hb dX0_root_94 ?_
          refine ti_ (nI (k % 2)) (pk_andN (by omega) 1 (by decide +kernel)) ?_
          refine lv_imul hx hb dX0_root_95 ?_
          refine ti_ (nI (32 * (k % 2))) (pk_mul _ _) ?_
          refine lv_lshl (v := wd_sl (ga_f (wd_sr (c1 k) 1)) (32 * (k % 2))) hx hb dX0_root_96 (sh_l _ _ (by omega)) ?_
          refine lv_lor hx hb dX0_root_97 ?_
          refine st_ hx hb hK hP hD hS 4 rfl (k / 2) rfl (by omega) (by decide) dX0_root_98 (fun g_3 H locs hg_3 hP hD hS => ?_)
          obtain rfl : g_3 = rt_lp (fun x => ga_f (wd_sr x 1)) c1 (f0_ f4 (fun _ => 0) 5) (k + 1) := hg_3
          have hP : va_P D wk_Cl [o0_ h0 qr qn qw qa qb qc qx, ar_ qr cA 20 f1, ar_ qn cA 5 f2, ar_ qw cA 10 f3, ar_ qa cA 5 (rt_lp (fun x => ga_f (wd_sr x 1)) c1 (f0_ f4 (fun _ => 0) 5) (k + 1)), ar_ qb cA 5 (rt_lp ga_f c1 (f0_ f5 (fun _ => 0) 5) (k + 1)), ar_ qc cA 5 c1, ar_ qx cA 5 f7] H := hP
          have hD : va_D A [o0_ h0 qr qn qw qa qb qc qx, ar_ qr cA 20 f1, ar_ qn cA 5 f2, ar_ qw cA 10 f3, ar_ qa cA 5 (rt_lp (fun x => ga_f (wd_sr x 1)) c1 (f0_ f4 (fun _ => 0) 5) (k + 1)), ar_ qb cA 5 (rt_lp ga_f c1 (f0_ f5 (fun _ => 0) 5) (k + 1)), ar_ qc cA 5 c1, ar_ qx cA 5 f7] := hD
          refine lv_iinc (v := nI (k + 1)) (lv' := [(3, .int (nI (k + 1))), (0, .ref h0), (1, .int p0), (2, .int p1)]) hx hb dX0_root_99 hl (k := 0) rfl (ii_1 _) (by decide) rfl (fun ls hl => ?_)
          refine lv_goto (tgt := 38) hx hb dX0_root_102 (by decide) ?_
          exact ih (k + 1) (by omega) _ _ _ hP hD hS (lv_sub hl [0, 1, 2, 3] rfl)
      exact l2 5 0 rfl _ _ _ hP hD hS (lv_sub hl [0, 1, 2, 3] rfl)
    | succ n ih =>
      intro k hkk H locs ls hP hD hS hl
      have hk : k < 5 := by omega
      refine lv_iload_n hx hb dX0_root_11 rfl (lv_at hl 0 rfl) ?_
      refine lv_iconst (v := nI 5) hx hb dX0_root_12 (by decide) ?_
      refine lv_icmp_ge (tgt := 36) hx hb dX0_root_13 (by decide) (fun hc => absurd hc (lq k hk)) (fun _ => ?_)
      refine lv_aload_n hx hb dX0_root_16 rfl (lv_at hl 1 rfl) ?_
      refine va_get (D := D) (ci := 0) (v := .ref qa) (C := RX0) (T := TX0) (N := 7) hx hb hts in_X0 hown hK hP 0 rfl rfl 3 (by decide) (hts _ q43) (fun _ h9 => h9) rfl dX0_root_17 ?_
      refine lv_iload_n hx hb dX0_root_20 rfl (lv_at hl 0 rfl) ?_
      refine lv_lconst (v := 0) hx hb dX0_root_21 (by decide) ?_
      refine st_ hx hb hK hP hD hS 4 rfl k rfl (by omega) (by decide) dX0_root_22 (fun g_4 H locs hg_4 hP hD hS => ?_)
      obtain rfl : g_4 = f0_ f4 (fun _ => 0) (k + 1) := hg_4
      have hP : va_P D wk_Cl [o0_ h0 qr qn qw qa qb qc qx, ar_ qr cA 20 f1, ar_ qn cA 5 f2, ar_ qw cA 10 f3, ar_ qa cA 5 (f0_ f4 (fun _ => 0) (k + 1)), ar_ qb cA 5 (f0_ f5 (fun _ => 0) k), ar_ qc cA 5 c1, ar_ qx cA 5 f7] H := hP
      have hD : va_D A [o0_ h0 qr qn qw qa qb qc qx, ar_ qr cA 20 f1, ar_ qn cA 5 f2, ar_ qw cA 10 f3, ar_ qa cA 5 (f0_ f4 (fun _ => 0) (k + 1)), ar_ qb cA 5 (f0_ f5 (fun _ => 0) k), ar_ qc cA 5 c1, ar_ qx cA 5 f7] := hD
      refine lv_aload_n hx hb dX0_root_23 rfl (lv_at hl 1 rfl) ?_
      refine va_get (D := D) (ci := 0) (v := .ref qb) (C := RX0) (T := TX0) (N := 7) hx hb hts in_X0 hown hK hP 0 rfl rfl 4 (by decide) (hts _ q44) (fun _ h9 => h9) rfl dX0_root_24 ?_
      refine lv_iload_n hx hb dX0_root_27 rfl (lv_at hl 0 rfl) ?_
      refine lv_lconst (v := 0) hx hb dX0_root_28 (by decide) ?_
      refine st_ hx hb hK hP hD hS 5 rfl k rfl (by omega) (by decide) dX0_root_29 (fun g_5 H locs hg_5 hP hD hS => ?_)
      obtain rfl : g_5 = f0_ f5 (fun _ => 0) (k + 1) := hg_5
      have hP : va_P D wk_Cl [o0_ h0 qr qn qw qa qb qc qx, ar_ qr cA 20 f1, ar_ qn cA 5 f2, ar_ qw cA 10 f3, ar_ qa cA 5 (f0_ f4 (fun _ => 0) (k + 1)), ar_ qb cA 5 (f0_ f5 (fun _ => 0) (k + 1)), ar_ qc cA 5 c1, ar_ qx cA 5 f7] H := hP
      have hD : va_D A [o0_ h0 qr qn qw qa qb qc qx, ar_ qr cA 20 f1, ar_ qn cA 5 f2, ar_ qw cA 10 f3, ar_ qa cA 5 (f0_ f4 (fun _ => 0) (k + 1)), ar_ qb cA 5 (f0_ f5 (fun _ => 0) (k + 1)), ar_ qc cA 5 c1, ar_ qx cA 5 f7] := hD
      refine lv_iinc (v := nI (k + 1)) (lv' := [(3, .int (nI (k + 1))), (0, .ref h0), (1, .int p0), (2, .int p1)]) hx hb dX0_root_30 hl (k := 0) rfl (ii_1 _) (by decide) rfl (fun ls hl => ?_)
      refine lv_goto (tgt := 11) hx hb dX0_root_33 (by decide) ?_
      exact ih (k + 1) (by omega) _ _ _ hP hD hS (lv_sub hl [0, 1, 2, 3] rfl)
  exact lp 5 0 rfl _ _ _ hP hD hS (lv_sub hl [0, 1, 2, 3] rfl)
set_option maxHeartbeats 4000000 in
set_option maxRecDepth 100000 in
/-- trace(p) -/
theorem m0_trace (l : Launch) (D : va_G) (cA : ClassId) (h0 qr qn qw qa qb qc qx : Nat) (f1 f2 f3 f4 f5 f6 f7 : Nat → Int64) (v : Nat → gf_V) (hv : rgs_ f1 v) (p0 : Int32) : MetI_ l yX0_trace cX0_trace 2 .int (rm_ 1 20) D cA [.ref h0, .int p0] [o0_ h0 qr qn qw qa qb qc qx, ar_ qr cA 20 f1, ar_ qn cA 5 f2, ar_ qw cA 10 f3, ar_ qa cA 5 f4, ar_ qb cA 5 f5, ar_ qc cA 5 f6, ar_ qx cA 5 f7] (fun (r : Int32) (_ : Unit) => r = tr_ (v (rg_ p0))) (fun _ => [o0_ h0 qr qn qw qa qb qc qx, ar_ qr cA 20 f1, ar_ qn cA 5 f2, ar_ qw cA 10 f3, ar_ qa cA 5 f4, ar_ qb cA 5 f5, ar_ qc cA 5 f6, ar_ qx cA 5 f7]) := by
  refine metI_of (by decide) (Nat.le_of_ble_eq_true rfl) ?_
  intro p e s m below meth c A Q hx hb hml hown hts hK hA ret ls hP hD hl
  have hown : s.vm.findClass "Field283" = some m.cls := hown
  have hS : va_S A s.heap s.heap [] := va_S.rf
  have hl : lv_has ls 2 [(0, .ref h0), (1, .int p0)] := hl
  have hrg := rg_lt p0
  refine lv_aload_n hx hb dX0_trace_0 rfl (lv_at hl 0 rfl) ?_
  refine va_get (D := D) (ci := 0) (v := .ref qr) (C := RX0) (T := TX0) (N := 7) hx hb hts in_X0 hown hK hP 0 rfl rfl 0 (by decide) (hts _ q40) (fun _ h9 => h9) rfl dX0_trace_1 ?_
  refine lv_iload_n hx hb dX0_trace_4 rfl (lv_at hl 1 rfl) ?_
  refine cs_i (v := nI (rg_ p0 * 5)) (n := 1) (As := [.int p0]) (rest := [.ref qr]) hx hb hml hown hts hK (m0_at l D cA p0) (lw_S q79 q80 q11 q81) (by decide +kernel) rfl ⟨rfl, rfl⟩ ⟨Nat.le_of_ble_eq_true rfl, Nat.le_of_ble_eq_true rfl⟩ ⟨Nat.zero_le _, Nat.zero_le _⟩ hP hD hS hA hl.1 rfl (Nat.le_of_ble_eq_true rfl) dX0_trace_5 (fun H locs hP hS => ?_)
  refine la_ (v := rp_w (v (rg_ p0)) 0) hx hb hK hP 1 rfl (rg_ p0 * 5) rfl (by omega) (by decide) (rp_word (hv (rg_ p0) (rg_lt p0)) 0 (by decide)) dX0_trace_8 ?_
  refine lv_aload_n hx hb dX0_trace_9 rfl (lv_at hl 0 rfl) ?_
  refine va_get (D := D) (ci := 0) (v := .ref qr) (C := RX0) (T := TX0) (N := 7) hx hb hts in_X0 hown hK hP 0 rfl rfl 0 (by decide) (hts _ q40) (fun _ h9 => h9) rfl dX0_trace_10 ?_
  refine lv_iload_n hx hb dX0_trace_13 rfl (lv_at hl 1 rfl) ?_
  refine cs_i (v := nI (rg_ p0 * 5)) (n := 1) (As := [.int p0]) (rest := [.ref qr, .long (rp_w (v (rg_ p0)) 0)]) hx hb hml hown hts hK (m0_at l D cA p0) (lw_S q79 q80 q11 q81) (by decide +kernel) rfl ⟨rfl, rfl⟩ ⟨Nat.le_of_ble_eq_true rfl, Nat.le_of_ble_eq_true rfl⟩ ⟨Nat.zero_le _, Nat.zero_le _⟩ hP hD hS hA hl.1 rfl (Nat.le_of_ble_eq_true rfl) dX0_trace_14 (fun H locs hP hS => ?_)
  refine lv_iconst (v := nI 4) hx hb dX0_trace_17 (by decide) ?_
  refine lv_iadd hx hb dX0_trace_18 ?_
  refine ti_ (nI (rg_ p0 * 5 + 4)) (nI_add _ _) ?_
  refine la_ (v := rp_w (v (rg_ p0)) 4) hx hb hK hP 1 rfl (rg_ p0 * 5 + 4) rfl (by omega) (by decide) (rp_word (hv (rg_ p0) (rg_lt p0)) 4 (by decide)) dX0_trace_19 ?_
  refine lv_bipush (v := nI 15) hx hb dX0_trace_20 (by decide) ?_
  refine lv_lushr (v := wd_sr (rp_w (v (rg_ p0)) 4) 15) hx hb dX0_trace_22 (sh_r _ _ (by decide)) ?_
  refine lv_lxor hx hb dX0_trace_23 ?_
  refine lv_l2i (v := ((rp_w (v (rg_ p0)) 0) ^^^ (wd_sr (rp_w (v (rg_ p0)) 4) 15)).toInt32) hx hb dX0_trace_24 rfl ?_
  refine lv_iconst (v := nI 1) hx hb dX0_trace_25 (by decide) ?_
  refine lv_iand hx hb dX0_trace_26 ?_
  refine ti_ (tr_ (v (rg_ p0))) (tr_eq _) ?_
  exact ret _ () _ _ _ _ dX0_trace_27 (vp_nar_int _) rfl hP hD hS
end
section
set_option maxHeartbeats 4000000 in
set_option maxRecDepth 100000 in
/-- invert(r, p) -/
theorem m0_invert (l : Launch) (D : va_G) (cA : ClassId) (h0 qr qn qw qa qb qc qx : Nat) (f1 f2 f3 f4 f5 f6 f7 : Nat → Int64) (v : Nat → gf_V) (hv : rgs_ f1 v) (p0 p1 : Int32) : MetI_ l yX0_invert cX0_invert 7 .boolean (rm_ 3 66) D cA [.ref h0, .int p0, .int p1] [o0_ h0 qr qn qw qa qb qc qx, ar_ qr cA 20 f1, ar_ qn cA 5 f2, ar_ qw cA 10 f3, ar_ qa cA 5 f4, ar_ qb cA 5 f5, ar_ qc cA 5 f6, ar_ qx cA 5 f7] (fun (r : Int32) (u : (Nat → Int64) × (Nat → Int64) × (Nat → Int64) × (Nat → Int64) × (Nat → Int64) × (Nat → Int64) × (Nat → Int64)) => r = iv_r (v (rg_ p1)) ∧ rgs_ u.1 (iv_v v (rg_ p0) (v (rg_ p1))) ∧ u.2.1 = f2 ∧ u.2.2.2.2.2.2 = f7) (fun u => [o0_ h0 qr qn qw qa qb qc qx, ar_ qr cA 20 u.1, ar_ qn cA 5 u.2.1, ar_ qw cA 10 u.2.2.1, ar_ qa cA 5 u.2.2.2.1, ar_ qb cA 5 u.2.2.2.2.1, ar_ qc cA 5 u.2.2.2.2.2.1, ar_ qx cA 5 u.2.2.2.2.2.2]) := by
  refine metI_of (by decide) (Nat.le_of_ble_eq_true rfl) ?_
  intro p e s m below meth c A Q hx hb hml hown hts hK hA ret ls hP hD hl
  have hown : s.vm.findClass "Field283" = some m.cls := hown
  have hS : va_S A s.heap s.heap [] := va_S.rf
  have hl : lv_has ls 7 [(0, .ref h0), (1, .int p0), (2, .int p1)] := hl
  have lq : ∀ k, k < 5 → ¬ nI 5 ≤ nI k := by decide +kernel
  refine lv_aload_n hx hb dX0_invert_0 rfl (lv_at hl 0 rfl) ?_
  refine lv_aload_n hx hb dX0_invert_1 rfl (lv_at hl 0 rfl) ?_
  refine va_get (D := D) (ci := 0) (v := .ref qa) (C := RX0) (T := TX0) (N := 7) hx hb hts in_X0 hown hK hP 0 rfl rfl 3 (by decide) (hts _ q43) (fun _ h9 => h9) rfl dX0_invert_2 ?_
  refine lv_iload_n hx hb dX0_invert_5 rfl (lv_at hl 2 rfl) ?_
  refine cv_V (ci := 0) (n := 2) (As := [.ref qa, .int p1]) (rest := []) (wr := [ar_ qn cA 5 f2, ar_ qw cA 10 f3, ar_ qb cA 5 f5, ar_ qc cA 5 f6, ar_ qx cA 5 f7]) (w2 := fun u : (Nat → Int64) => [o0_ h0 qr qn qw qa qb qc qx, ar_ qr cA 20 f1, ar_ qn cA 5 f2, ar_ qw cA 10 f3, ar_ qa cA 5 u, ar_ qb cA 5 f5, ar_ qc cA 5 f6, ar_ qx cA 5 f7]) hx hb hml hown hts hK (m0_get l D cA h0 qr qn qw qa qb qc qx qa f1 f4 p1) (lw_V q91 q93 qs3 q11 q94) (by decide +kernel) rfl ⟨rfl, rfl⟩ ⟨Nat.le_of_ble_eq_true rfl, Nat.le_of_ble_eq_true rfl⟩ ⟨Nat.zero_le _, Nat.zero_le _⟩ hP hD hS hA [0, 1, 4] [2, 3, 5, 6, 7] [5, 6, 0, 1, 7, 2, 3, 4] rfl rfl rfl rfl (by decide) (by decide) (by decide) (by decide) (fun _ => rfl) hl.1 rfl (Nat.le_of_ble_eq_true rfl) dX0_invert_6 (fun a1 H locs h1 hP hD hS => ?_)
  have hP : va_P D wk_Cl [o0_ h0 qr qn qw qa qb qc qx, ar_ qr cA 20 f1, ar_ qn cA 5 f2, ar_ qw cA 10 f3, ar_ qa cA 5 a1, ar_ qb cA 5 f5, ar_ qc cA 5 f6, ar_ qx cA 5 f7] H := hP
  have hD : va_D A [o0_ h0 qr qn qw qa qb qc qx, ar_ qr cA 20 f1, ar_ qn cA 5 f2, ar_ qw cA 10 f3, ar_ qa cA 5 a1, ar_ qb cA 5 f5, ar_ qc cA 5 f6, ar_ qx cA 5 f7] := hD
  refine lv_aload_n hx hb dX0_invert_9 rfl (lv_at hl 0 rfl) ?_
  refine lv_aload_n hx hb dX0_invert_10 rfl (lv_at hl 0 rfl) ?_
  refine va_get (D := D) (ci := 0) (v := .ref qc) (C := RX0) (T := TX0) (N := 7) hx hb hts in_X0 hown hK hP 0 rfl rfl 5 (by decide) (hts _ q45) (fun _ h9 => h9) rfl dX0_invert_11 ?_
  refine lv_iload_n hx hb dX0_invert_14 rfl (lv_at hl 2 rfl) ?_
  refine cv_V (ci := 0) (n := 2) (As := [.ref qc, .int p1]) (rest := []) (wr := [ar_ qn cA 5 f2, ar_ qw cA 10 f3, ar_ qa cA 5 a1, ar_ qb cA 5 f5, ar_ qx cA 5 f7]) (w2 := fun u : (Nat → Int64) => [o0_ h0 qr qn qw qa qb qc qx, ar_ qr cA 20 f1, ar_ qn cA 5 f2, ar_ qw cA 10 f3, ar_ qa cA 5 a1, ar_ qb cA 5 f5, ar_ qc cA 5 u, ar_ qx cA 5 f7]) hx hb hml hown hts hK (m0_get l D cA h0 qr qn qw qa qb qc qx qc f1 f6 p1) (lw_V q91 q93 qs3 q11 q94) (by decide +kernel) rfl ⟨rfl, rfl⟩ ⟨Nat.le_of_ble_eq_true rfl, Nat.le_of_ble_eq_true rfl⟩ ⟨Nat.zero_le _, Nat.zero_le _⟩ hP hD hS hA [0, 1, 6] [2, 3, 4, 5, 7] [5, 6, 0, 1, 2, 3, 7, 4] rfl rfl rfl rfl (by decide) (by decide) (by decide) (by decide) (fun _ => rfl) hl.1 rfl (Nat.le_of_ble_eq_true rfl) dX0_invert_15 (fun c1 H locs h2 hP hD hS => ?_)
  have hP : va_P D wk_Cl [o0_ h0 qr qn qw qa qb qc qx, ar_ qr cA 20 f1, ar_ qn cA 5 f2, ar_ qw cA 10 f3, ar_ qa cA 5 a1, ar_ qb cA 5 f5, ar_ qc cA 5 c1, ar_ qx cA 5 f7] H := hP
  have hD : va_D A [o0_ h0 qr qn qw qa qb qc qx, ar_ qr cA 20 f1, ar_ qn cA 5 f2, ar_ qw cA 10 f3, ar_ qa cA 5 a1, ar_ qb cA 5 f5, ar_ qc cA 5 c1, ar_ qx cA 5 f7] := hD
  have ha := rgs_get hv p1 h1
  have hc1 := rgs_get hv p1 h2
  refine lv_iconst (v := nI 0) hx hb dX0_invert_18 (by decide) ?_
  refine lv_istore_n (lv' := [(3, .int (nI 0)), (0, .ref h0), (1, .int p0), (2, .int p1)]) hx hb dX0_invert_19 rfl hl (by decide) rfl (fun ls hl => ?_)
  refine lv_iconst (v := nI 0) hx hb dX0_invert_20 (by decide) ?_
  refine lv_istore (lv' := [(4, .int (nI 0)), (3, .int (nI 0)), (0, .ref h0), (1, .int p0), (2, .int p1)]) hx hb dX0_invert_21 hl (by decide) rfl (fun ls hl => ?_)
  have lp : ∀ (n k : Nat), k + n = 5 → ∀ (H : Heap) (locs : List Loc) (ls : Array Slot), va_P D wk_Cl [o0_ h0 qr qn qw qa qb qc qx, ar_ qr cA 20 f1, ar_ qn cA 5 f2, ar_ qw cA 10 f3, ar_ qa cA 5 a1, ar_ qb cA 5 f5, ar_ qc cA 5 c1, ar_ qx cA 5 f7] H → va_D A [o0_ h0 qr qn qw qa qb qc qx, ar_ qr cA 20 f1, ar_ qn cA 5 f2, ar_ qw cA 10 f3, ar_ qa cA 5 a1, ar_ qb cA 5 f5, ar_ qc cA 5 c1, ar_ qx cA 5 f7] → va_S A s.heap H locs → lv_has ls 7 [(4, .int (nI k)), (3, .int (nI (sm_ a1 k))), (0, .ref h0), (1, .int p0), (2, .int p1)] → W p l e (rm_ 3 66) s m ([.ref h0, .int p0, .int p1] : List Value).toArray below meth c H locs 0 0 Q (F0 m 23 ls []) := by
    intro n
    induction n with
    | zero =>
      intro k hk H locs ls hP hD hS hl
      obtain rfl : k = 5 := by omega
      refine lv_iload hx hb dX0_invert_23 (lv_at hl 0 rfl) ?_
      refine lv_iconst (v := nI 5) hx hb dX0_invert_25 (by decide) ?_
      refine lv_icmp_ge (tgt := 57) hx hb dX0_invert_26 (by decide) (fun _ => ?_) (fun hc => absurd (by decide) hc)
      refine lv_iload_n hx hb dX0_invert_57 rfl (lv_at hl 1 rfl) ?_
      refine lv_if_ne (tgt := 63) hx hb dX0_invert_58 (by decide) (fun hc => ?_) (fun hc => ?_)
      · have hx0 : ¬ (v (rg_ p1)) = 0#283 := fun e => hc ((sm_i a1 5).mpr ((sm_rp ha).mpr e))
        refine lv_iconst (v := nI 1) hx hb dX0_invert_63 (by decide) ?_
        refine ti_ (nI (282 / 2 ^ 8)) (by decide +kernel) ?_
        refine lv_istore (lv' := [(4, .int (nI (282 / 2 ^ 8))), (3, .int (nI (sm_ a1 5))), (0, .ref h0), (1, .int p0), (2, .int p1)]) hx hb dX0_invert_64 hl (by decide) rfl (fun ls hl => ?_)
        refine lv_bipush (v := nI 7) hx hb dX0_invert_66 (by decide) ?_
        refine ti_ (nI 8 + (-1)) (by decide +kernel) ?_
        refine lv_istore (lv' := [(5, .int (nI 8 + (-1))), (4, .int (nI (282 / 2 ^ 8))), (3, .int (nI (sm_ a1 5))), (0, .ref h0), (1, .int p0), (2, .int p1)]) hx hb dX0_invert_68 hl (by decide) rfl (fun ls hl => ?_)
        have ht0 : rp_ a1 (gf_T (v (rg_ p1)) (282 / 2 ^ 8)) := by rw [show 282 / 2 ^ 8 = 1 from rfl, gf_T_1]; exact ha
        have iq : ∀ n, n < 8 → (nI 282 >>> (nI n &&& 31)) &&& nI 1 = nI (282 / 2 ^ n % 2) := by decide +kernel
        have l2 : ∀ (n : Nat) (fw fa fb : Nat → Int64), n ≤ 8 → rp_ fa (gf_T (v (rg_ p1)) (282 / 2 ^ n)) → ∀ (H : Heap) (locs : List Loc) (ls : Array Slot), va_P D wk_Cl [o0_ h0 qr qn qw qa qb qc qx, ar_ qr cA 20 f1, ar_ qn cA 5 f2, ar_ qw cA 10 fw, ar_ qa cA 5 fa, ar_ qb cA 5 fb, ar_ qc cA 5 c1, ar_ qx cA 5 f7] H → va_D A [o0_ h0 qr qn qw qa qb qc qx, ar_ qr cA 20 f1, ar_ qn cA 5 f2, ar_ qw cA 10 fw, ar_ qa cA 5 fa, ar_ qb cA 5 fb, ar_ qc cA 5 c1, ar_ qx cA 5 f7] → va_S A s.heap H locs → lv_has ls 7 [(5, .int (nI n + (-1))), (4, .int (nI (282 / 2 ^ n))), (0, .ref h0), (1, .int p0)] → W p l e (rm_ 3 66) s m ([.ref h0, .int p0, .int p1] : List Value).toArray below meth c H locs 0 0 Q (F0 m 70 ls []) := by
          intro n
          induction n with
          | zero =>
            intro fw fa fb hn ht H locs ls hP hD hS hl
            refine lv_iload hx hb dX0_invert_70 (lv_at hl 0 rfl) ?_
            refine lv_if_lt (tgt := 157) hx hb dX0_invert_72 (by decide) (fun _ => ?_) (fun hc => absurd (by decide) hc)
            refine lv_aload_n hx hb dX0_invert_157 rfl (lv_at hl 2 rfl) ?_
            refine cv_V (ci := 0) (n := 0) (As := []) (rest := []) (wr := [ar_ qr cA 20 f1, ar_ qn cA 5 f2, ar_ qb cA 5 fb, ar_ qc cA 5 c1, ar_ qx cA 5 f7]) (w2 := fun u : (Nat → Int64) × (Nat → Int64) => [o0_ h0 qr qn qw qa qb qc qx, ar_ qr cA 20 f1, ar_ qn cA 5 f2, ar_ qw cA 10 u.1, ar_ qa cA 5 u.2, ar_ qb cA 5 fb, ar_ qc cA 5 c1, ar_ qx cA 5 f7]) hx hb hml hown hts hK (m0_twice l D cA h0 qr qn qw qa qb qc qx fw fa _ ht) (lw_V q22 q24 qs0 q11 q25) (by decide +kernel) rfl ⟨rfl, rfl⟩ ⟨Nat.le_of_ble_eq_true rfl, Nat.le_of_ble_eq_true rfl⟩ ⟨Nat.zero_le _, Nat.zero_le _⟩ hP hD hS hA [0, 3, 4] [1, 2, 5, 6, 7] [5, 0, 1, 6, 7, 2, 3, 4] rfl rfl rfl rfl (by decide) (by decide) (by decide) (by decide) (fun _ => rfl) hl.1 rfl (Nat.le_of_ble_eq_true rfl) dX0_invert_158 (fun u H locs h3 hP hD hS => ?_)
            obtain ⟨w1, a2⟩ := u
            have hP : va_P D wk_Cl [o0_ h0 qr qn qw qa qb qc qx, ar_ qr cA 20 f1, ar_ qn cA 5 f2, ar_ qw cA 10 w1, ar_ qa cA 5 a2, ar_ qb cA 5 fb, ar_ qc cA 5 c1, ar_ qx cA 5 f7] H := hP
            have hD : va_D A [o0_ h0 qr qn qw qa qb qc qx, ar_ qr cA 20 f1, ar_ qn cA 5 f2, ar_ qw cA 10 w1, ar_ qa cA 5 a2, ar_ qb cA 5 fb, ar_ qc cA 5 c1, ar_ qx cA 5 f7] := hD
            refine lv_aload_n hx hb dX0_invert_161 rfl (lv_at hl 2 rfl) ?_
            refine lv_iload_n hx hb dX0_invert_162 rfl (lv_at hl 3 rfl) ?_
            refine cv_V (ci := 0) (n := 1) (As := [.int p0]) (rest := []) (wr := [ar_ qn cA 5 f2, ar_ qw cA 10 w1, ar_ qb cA 5 fb, ar_ qc cA 5 c1, ar_ qx cA 5 f7]) (w2 := fun u : (Nat → Int64) => [o0_ h0 qr qn qw qa qb qc qx, ar_ qr cA 20 u, ar_ qn cA 5 f2, ar_ qw cA 10 w1, ar_ qa cA 5 a2, ar_ qb cA 5 fb, ar_ qc cA 5 c1, ar_ qx cA 5 f7]) hx hb hml hown hts hK (m0_set l D cA h0 qr qn qw qa qb qc qx f1 a2 p0) (lw_V q75 q77 qs2 q11 q78) (by decide +kernel) rfl ⟨rfl, rfl⟩ ⟨Nat.le_of_ble_eq_true rfl, Nat.le_of_ble_eq_true rfl⟩ ⟨Nat.zero_le _, Nat.zero_le _⟩ hP hD hS hA [0, 1, 4] [2, 3, 5, 6, 7] [5, 6, 0, 1, 7, 2, 3, 4] rfl rfl rfl rfl (by decide) (by decide) (by decide) (by decide) (fun _ => rfl) hl.1 rfl (Nat.le_of_ble_eq_true rfl) dX0_invert_163 (fun r1 H locs hs hP hD hS => ?_)
            have hP : va_P D wk_Cl [o0_ h0 qr qn qw qa qb qc qx, ar_ qr cA 20 r1, ar_ qn cA 5 f2, ar_ qw cA 10 w1, ar_ qa cA 5 a2, ar_ qb cA 5 fb, ar_ qc cA 5 c1, ar_ qx cA 5 f7] H := hP
            have hD : va_D A [o0_ h0 qr qn qw qa qb qc qx, ar_ qr cA 20 r1, ar_ qn cA 5 f2, ar_ qw cA 10 w1, ar_ qa cA 5 a2, ar_ qb cA 5 fb, ar_ qc cA 5 c1, ar_ qx cA 5 f7] := hD
            refine lv_iconst (v := nI 1) hx hb dX0_invert_166 (by decide) ?_
            exact ret _ (r1, f2, w1, a2, fb, c1, f7) _ _ _ _ dX0_invert_167 rfl ⟨by unfold iv_r; rw [if_neg hx0]; rfl, by rw [hs]; unfold iv_v; rw [if_neg hx0]; exact rgs_set hv h3 _, rfl, rfl⟩ hP hD hS
          | succ n ih =>
            intro fw fa fb hn ht H locs ls hP hD hS hl
            rw [pk_m1] at hl
            refine lv_iload hx hb dX0_invert_70 (lv_at hl 0 rfl) ?_
            refine lv_if_lt (tgt := 157) hx hb dX0_invert_72 (by decide) (fun hc => absurd hc (nI_pos (by omega))) (fun _ => ?_)
            refine lv_iconst (v := nI 0) hx hb dX0_invert_75 (by decide) ?_
            refine lv_istore (lv' := [(6, .int (nI 0)), (5, .int (nI n)), (4, .int (nI (282 / 2 ^ (n + 1)))), (0, .ref h0), (1, .int p0)]) hx hb dX0_invert_76 hl (by decide) rfl (fun ls hl => ?_)
            have l3 : ∀ (nz k : Nat), k + nz = 5 → ∀ (H : Heap) (locs : List Loc) (ls : Array Slot), va_P D wk_Cl [o0_ h0 qr qn qw qa qb qc qx, ar_ qr cA 20 f1, ar_ qn cA 5 f2, ar_ qw cA 10 fw, ar_ qa cA 5 fa, ar_ qb cA 5 (f0_ fb fa k), ar_ qc cA 5 c1, ar_ qx cA 5 f7] H → va_D A [o0_ h0 qr qn qw qa qb qc qx, ar_ qr cA 20 f1, ar_ qn cA 5 f2, ar_ qw cA 10 fw, ar_ qa cA 5 fa, ar_ qb cA 5 (f0_ fb fa k), ar_ qc cA 5 c1, ar_ qx cA 5 f7] → va_S A s.heap H locs → lv_has ls 7 [(6, .int (nI k)), (5, .int (nI n)), (4, .int (nI (282 / 2 ^ (n + 1)))), (0, .ref h0), (1, .int p0)] → W p l e (rm_ 3 66) s m ([.ref h0, .int p0, .int p1] : List Value).toArray below meth c H locs 0 0 Q (F0 m 78 ls []) := by
              intro nz
              induction nz with
              | zero =>
                intro k hkk H locs ls hP hD hS hl
                obtain rfl : k = 5 := by omega
                refine lv_iload hx hb dX0_invert_78 (lv_at hl 0 rfl) ?_
                refine lv_iconst (v := nI 5) hx hb dX0_invert_80 (by decide) ?_
                refine lv_icmp_ge (tgt := 104) hx hb dX0_invert_81 (by decide) (fun _ => ?_) (fun hc => absurd (by decide) hc)
                refine lv_aload_n hx hb dX0_invert_104 rfl (lv_at hl 3 rfl) ?_
                refine lv_iload hx hb dX0_invert_105 (lv_at hl 2 rfl) ?_
                refine cv_V (ci := 0) (n := 1) (As := [.int (nI (282 / 2 ^ (n + 1)))]) (rest := []) (wr := [ar_ qr cA 20 f1, ar_ qn cA 5 f2, ar_ qb cA 5 (f0_ fb fa 5), ar_ qc cA 5 c1, ar_ qx cA 5 f7]) (w2 := fun u : (Nat → Int64) × (Nat → Int64) => [o0_ h0 qr qn qw qa qb qc qx, ar_ qr cA 20 f1, ar_ qn cA 5 f2, ar_ qw cA 10 u.1, ar_ qa cA 5 u.2, ar_ qb cA 5 (f0_ fb fa 5), ar_ qc cA 5 c1, ar_ qx cA 5 f7]) hx hb hml hown hts hK (m0_often l D cA h0 qr qn qw qa qb qc qx fw fa _ ht ((282 / 2 ^ (n + 1))) (dv_lt _)) (lw_V q123 q125 qs5 q11 q126) (by decide +kernel) rfl ⟨rfl, rfl⟩ ⟨Nat.le_of_ble_eq_true rfl, Nat.le_of_ble_eq_true rfl⟩ ⟨Nat.zero_le _, Nat.zero_le _⟩ hP hD hS hA [0, 3, 4] [1, 2, 5, 6, 7] [5, 0, 1, 6, 7, 2, 3, 4] rfl rfl rfl rfl (by decide) (by decide) (by decide) (by decide) (fun _ => rfl) hl.1 rfl (Nat.le_of_ble_eq_true rfl) dX0_invert_107 (fun u H locs h3 hP hD hS => ?_)
                obtain ⟨w1, a2⟩ := u
                have hP : va_P D wk_Cl [o0_ h0 qr qn qw qa qb qc qx, ar_ qr cA 20 f1, ar_ qn cA 5 f2, ar_ qw cA 10 w1, ar_ qa cA 5 a2, ar_ qb cA 5 (f0_ fb fa 5), ar_ qc cA 5 c1, ar_ qx cA 5 f7] H := hP
                have hD : va_D A [o0_ h0 qr qn qw qa qb qc qx, ar_ qr cA 20 f1, ar_ qn cA 5 f2, ar_ qw cA 10 w1, ar_ qa cA 5 a2, ar_ qb cA 5 (f0_ fb fa 5), ar_ qc cA 5 c1, ar_ qx cA 5 f7] := hD
                refine lv_aload_n hx hb dX0_invert_110 rfl (lv_at hl 3 rfl) ?_
                refine lv_aload_n hx hb dX0_invert_111 rfl (lv_at hl 3 rfl) ?_
                refine va_get (D := D) (ci := 0) (v := .ref qb) (C := RX0) (T := TX0) (N := 7) hx hb hts in_X0 hown hK hP 0 rfl rfl 4 (by decide) (hts _ q44) (fun _ h9 => h9) rfl dX0_invert_112 ?_
                refine cv_V (ci := 0) (n := 1) (As := [.ref qb]) (rest := []) (wr := [ar_ qr cA 20 f1, ar_ qn cA 5 f2, ar_ qc cA 5 c1, ar_ qx cA 5 f7]) (w2 := fun u : (Nat → Int64) × (Nat → Int64) => [o0_ h0 qr qn qw qa qb qc qx, ar_ qr cA 20 f1, ar_ qn cA 5 f2, ar_ qw cA 10 u.1, ar_ qa cA 5 u.2, ar_ qb cA 5 (f0_ fb fa 5), ar_ qc cA 5 c1, ar_ qx cA 5 f7]) hx hb hml hown hts hK (m0_times l D cA h0 qr qn qw qa qb qc qx qb w1 a2 (f0_ fb fa 5) _ _ h3 (rp_congr ht (fun k hk => f0_in fb fa 5 k hk))) (lw_V q103 q105 qs4 q11 q106) (by decide +kernel) rfl ⟨rfl, rfl⟩ ⟨Nat.le_of_ble_eq_true rfl, Nat.le_of_ble_eq_true rfl⟩ ⟨Nat.zero_le _, Nat.zero_le _⟩ hP hD hS hA [0, 3, 4, 5] [1, 2, 6, 7] [4, 0, 1, 5, 6, 7, 2, 3] rfl rfl rfl rfl (by decide) (by decide) (by decide) (by decide) (fun _ => rfl) hl.1 rfl (Nat.le_of_ble_eq_true rfl) dX0_invert_115 (fun u H locs h4 hP hD hS => ?_)
                obtain ⟨w2, a3⟩ := u
                have hP : va_P D wk_Cl [o0_ h0 qr qn qw qa qb qc qx, ar_ qr cA 20 f1, ar_ qn cA 5 f2, ar_ qw cA 10 w2, ar_ qa cA 5 a3, ar_ qb cA 5 (f0_ fb fa 5), ar_ qc cA 5 c1, ar_ qx cA 5 f7] H := hP
                have hD : va_D A [o0_ h0 qr qn qw qa qb qc qx, ar_ qr cA 20 f1, ar_ qn cA 5 f2, ar_ qw cA 10 w2, ar_ qa cA 5 a3, ar_ qb cA 5 (f0_ fb fa 5), ar_ qc cA 5 c1, ar_ qx cA 5 f7] := hD
                have h4 : rp_ a3 _ := h4
                rw [gf_T_dbl] at h4
                refine lv_iconst (v := nI 2) hx hb dX0_invert_118 (by decide) ?_
                refine lv_iload hx hb dX0_invert_119 (lv_at hl 2 rfl) ?_
                refine lv_imul hx hb dX0_invert_121 ?_
                refine ti_ (nI (2 * (282 / 2 ^ (n + 1)))) (pk_mul _ _) ?_
                refine lv_istore (lv' := [(4, .int (nI (2 * (282 / 2 ^ (n + 1))))), (6, .int (nI 5)), (5, .int (nI n)), (0, .ref h0), (1, .int p0)]) hx hb dX0_invert_122 hl (by decide) rfl (fun ls hl => ?_)
                refine lv_sipush (v := nI 282) hx hb dX0_invert_124 (by decide) ?_
                refine lv_iload hx hb dX0_invert_127 (lv_at hl 2 rfl) ?_
                refine lv_ishr hx hb dX0_invert_129 ?_
                refine lv_iconst (v := nI 1) hx hb dX0_invert_130 (by decide) ?_
                refine lv_iand hx hb dX0_invert_131 ?_
                refine ti_ (nI (282 / 2 ^ n % 2)) (iq n (by omega)) ?_
                refine lv_iconst (v := nI 1) hx hb dX0_invert_132 (by decide) ?_
                refine lv_icmp_ne (tgt := 151) hx hb dX0_invert_133 (by decide) (fun hbit => ?_) (fun hbit => ?_)
                · have hb0 : 282 / 2 ^ n % 2 = 0 := by
                    have hb2 : ¬ 282 / 2 ^ n % 2 = 1 := fun e => hbit (by rw [e])
                    omega
                  have e9 : 2 * (282 / 2 ^ (n + 1)) = 282 / 2 ^ n := by have := dv_ n; omega
                  rw [e9] at hl h4
                  refine lv_iinc (v := nI n + (-1)) (lv' := [(5, .int (nI n + (-1))), (4, .int (nI (282 / 2 ^ n))), (6, .int (nI 5)), (0, .ref h0), (1, .int p0)]) hx hb dX0_invert_151 hl (k := 2) rfl (ii_m n) (by decide) rfl (fun ls hl => ?_)
                  refine lv_goto (tgt := 70) hx hb dX0_invert_154 (by decide) ?_
                  exact ih w2 a3 (f0_ fb fa 5) (by omega) h4 _ _ _ hP hD hS (lv_sub hl [0, 1, 3, 4] rfl)
                · have hb1 : 282 / 2 ^ n % 2 = 1 := (nI_eq (by omega) (by decide)).mp hbit
                  refine lv_aload_n hx hb dX0_invert_136 rfl (lv_at hl 3 rfl) ?_
                  refine cv_V (ci := 0) (n := 0) (As := []) (rest := []) (wr := [ar_ qr cA 20 f1, ar_ qn cA 5 f2, ar_ qb cA 5 (f0_ fb fa 5), ar_ qc cA 5 c1, ar_ qx cA 5 f7]) (w2 := fun u : (Nat → Int64) × (Nat → Int64) => [o0_ h0 qr qn qw qa qb qc qx, ar_ qr cA 20 f1, ar_ qn cA 5 f2, ar_ qw cA 10 u.1, ar_ qa cA 5 u.2, ar_ qb cA 5 (f0_ fb fa 5), ar_ qc cA 5 c1, ar_ qx cA 5 f7]) hx hb hml hown hts hK (m0_twice l D cA h0 qr qn qw qa qb qc qx w2 a3 _ h4) (lw_V q22 q24 qs0 q11 q25) (by decide +kernel) rfl ⟨rfl, rfl⟩ ⟨Nat.le_of_ble_eq_true rfl, Nat.le_of_ble_eq_true rfl⟩ ⟨Nat.zero_le _, Nat.zero_le _⟩ hP hD hS hA [0, 3, 4] [1, 2, 5, 6, 7] [5, 0, 1, 6, 7, 2, 3, 4] rfl rfl rfl rfl (by decide) (by decide) (by decide) (by decide) (fun _ => rfl) hl.1 rfl (Nat.le_of_ble_eq_true rfl) dX0_invert_137 (fun u H locs h5 hP hD hS => ?_)
                  obtain ⟨w3, a4⟩ := u
                  have hP : va_P D wk_Cl [o0_ h0 qr qn qw qa qb qc qx, ar_ qr cA 20 f1, ar_ qn cA 5 f2, ar_ qw cA 10 w3, ar_ qa cA 5 a4, ar_ qb cA 5 (f0_ fb fa 5), ar_ qc cA 5 c1, ar_ qx cA 5 f7] H := hP
                  have hD : va_D A [o0_ h0 qr qn qw qa qb qc qx, ar_ qr cA 20 f1, ar_ qn cA 5 f2, ar_ qw cA 10 w3, ar_ qa cA 5 a4, ar_ qb cA 5 (f0_ fb fa 5), ar_ qc cA 5 c1, ar_ qx cA 5 f7] := hD
                  refine lv_aload_n hx hb dX0_invert_140 rfl (lv_at hl 3 rfl) ?_
                  refine lv_aload_n hx hb dX0_invert_141 rfl (lv_at hl 3 rfl) ?_
                  refine va_get (D := D) (ci := 0) (v := .ref qc) (C := RX0) (T := TX0) (N := 7) hx hb hts in_X0 hown hK hP 0 rfl rfl 5 (by decide) (hts _ q45) (fun _ h9 => h9) rfl dX0_invert_142 ?_
                  refine cv_V (ci := 0) (n := 1) (As := [.ref qc]) (rest := []) (wr := [ar_ qr cA 20 f1, ar_ qn cA 5 f2, ar_ qb cA 5 (f0_ fb fa 5), ar_ qx cA 5 f7]) (w2 := fun u : (Nat → Int64) × (Nat → Int64) => [o0_ h0 qr qn qw qa qb qc qx, ar_ qr cA 20 f1, ar_ qn cA 5 f2, ar_ qw cA 10 u.1, ar_ qa cA 5 u.2, ar_ qb cA 5 (f0_ fb fa 5), ar_ qc cA 5 c1, ar_ qx cA 5 f7]) hx hb hml hown hts hK (m0_times l D cA h0 qr qn qw qa qb qc qx qc w3 a4 c1 _ _ h5 hc1) (lw_V q103 q105 qs4 q11 q106) (by decide +kernel) rfl ⟨rfl, rfl⟩ ⟨Nat.le_of_ble_eq_true rfl, Nat.le_of_ble_eq_true rfl⟩ ⟨Nat.zero_le _, Nat.zero_le _⟩ hP hD hS hA [0, 3, 4, 6] [1, 2, 5, 7] [4, 0, 1, 5, 6, 2, 7, 3] rfl rfl rfl rfl (by decide) (by decide) (by decide) (by decide) (fun _ => rfl) hl.1 rfl (Nat.le_of_ble_eq_true rfl) dX0_invert_145 (fun u H locs h6 hP hD hS => ?_)
                  obtain ⟨w4, a5⟩ := u
                  have hP : va_P D wk_Cl [o0_ h0 qr qn qw qa qb qc qx, ar_ qr cA 20 f1, ar_ qn cA 5 f2, ar_ qw cA 10 w4, ar_ qa cA 5 a5, ar_ qb cA 5 (f0_ fb fa 5), ar_ qc cA 5 c1, ar_ qx cA 5 f7] H := hP
                  have hD : va_D A [o0_ h0 qr qn qw qa qb qc qx, ar_ qr cA 20 f1, ar_ qn cA 5 f2, ar_ qw cA 10 w4, ar_ qa cA 5 a5, ar_ qb cA 5 (f0_ fb fa 5), ar_ qc cA 5 c1, ar_ qx cA 5 f7] := hD
                  refine lv_iinc (v := nI (2 * (282 / 2 ^ (n + 1)) + 1)) (lv' := [(4, .int (nI (2 * (282 / 2 ^ (n + 1)) + 1))), (6, .int (nI 5)), (5, .int (nI n)), (0, .ref h0), (1, .int p0)]) hx hb dX0_invert_148 hl (k := 0) rfl (ii_1 _) (by decide) rfl (fun ls hl => ?_)
                  have e9 : 2 * (282 / 2 ^ (n + 1)) + 1 = 282 / 2 ^ n := by have := dv_ n; omega
                  have h6 : rp_ a5 (gf_T (v (rg_ p1)) (2 * (282 / 2 ^ (n + 1)) + 1)) := h6
                  rw [e9] at hl h6
                  refine lv_iinc (v := nI n + (-1)) (lv' := [(5, .int (nI n + (-1))), (4, .int (nI (282 / 2 ^ n))), (6, .int (nI 5)), (0, .ref h0), (1, .int p0)]) hx hb dX0_invert_151 hl (k := 2) rfl (ii_m n) (by decide) rfl (fun ls hl => ?_)
                  refine lv_goto (tgt := 70) hx hb dX0_invert_154 (by decide) ?_
                  exact ih w4 a5 (f0_ fb fa 5) (by omega) h6 _ _ _ hP hD hS (lv_sub hl [0, 1, 3, 4] rfl)
              | succ nz ihz =>
                intro k hkk H locs ls hP hD hS hl
                have hk : k < 5 := by omega
                refine lv_iload hx hb dX0_invert_78 (lv_at hl 0 rfl) ?_
                refine lv_iconst (v := nI 5) hx hb dX0_invert_80 (by decide) ?_
                refine lv_icmp_ge (tgt := 104) hx hb dX0_invert_81 (by decide) (fun hc => absurd hc (lq k hk)) (fun _ => ?_)
                refine lv_aload_n hx hb dX0_invert_84 rfl (lv_at hl 3 rfl) ?_
                refine va_get (D := D) (ci := 0) (v := .ref qb) (C := RX0) (T := TX0) (N := 7) hx hb hts in_X0 hown hK hP 0 rfl rfl 4 (by decide) (hts _ q44) (fun _ h9 => h9) rfl dX0_invert_85 ?_
                refine lv_iload hx hb dX0_invert_88 (lv_at hl 0 rfl) ?_
                refine lv_aload_n hx hb dX0_invert_90 rfl (lv_at hl 3 rfl) ?_
                refine va_get (D := D) (ci := 0) (v := .ref qa) (C := RX0) (T := TX0) (N := 7) hx hb hts in_X0 hown hK hP 0 rfl rfl 3 (by decide) (hts _ q43) (fun _ h9 => h9) rfl dX0_invert_91 ?_
                refine lv_iload hx hb dX0_invert_94 (lv_at hl 0 rfl) ?_
                refine la_ (v := fa k) hx hb hK hP 4 rfl k rfl (by omega) (by decide) rfl dX0_invert_96 ?_
                refine st_ hx hb hK hP hD hS 5 rfl k rfl (by omega) (by decide) dX0_invert_97 (fun g_1 H locs hg_1 hP hD hS => ?_)
                obtain rfl : g_1 = f0_ fb fa (k + 1) := hg_1
                have hP : va_P D wk_Cl [o0_ h0 qr qn qw qa qb qc qx, ar_ qr cA 20 f1, ar_ qn cA 5 f2, ar_ qw cA 10 fw, ar_ qa cA 5 fa, ar_ qb cA 5 (f0_ fb fa (k + 1)), ar_ qc cA 5 c1, ar_ qx cA 5 f7] H := hP
                have hD : va_D A [o0_ h0 qr qn qw qa qb qc qx, ar_ qr cA 20 f1, ar_ qn cA 5 f2, ar_ qw cA 10 fw, ar_ qa cA 5 fa, ar_ qb cA 5 (f0_ fb fa (k + 1)), ar_ qc cA 5 c1, ar_ qx cA 5 f7] := hD
                refine lv_iinc (v := nI (k + 1)) (lv' := [(6, .int (nI (k + 1))), (5, .int (nI n)), (4, .int (nI (282 / 2 ^ (n + 1)))), (0, .ref h0), (1, .int p0)]) hx hb dX0_invert_98 hl (k := 0) rfl (ii_1 _) (by decide) rfl (fun ls hl => ?_)
                refine lv_goto (tgt := 78) hx hb dX0_invert_101 (by decide) ?_
                exact ihz (k + 1) (by omega) _ _ _ hP hD hS (lv_sub hl [0, 1, 2, 3, 4] rfl)
            exact l3 5 0 rfl _ _ _ hP hD hS (lv_sub hl [0, 1, 2, 3, 4] rfl)
        exact l2 8 f3 a1 f5 (Nat.le_refl 8) ht0 _ _ _ hP hD hS (lv_sub hl [0, 1, 3, 4] rfl)
      · refine lv_iconst (v := nI 0) hx hb dX0_invert_61 (by decide) ?_
        have hx0 : (v (rg_ p1)) = 0#283 := (sm_rp ha).mp ((sm_i a1 5).mp hc)
        exact ret _ (f1, f2, f3, a1, f5, c1, f7) _ _ _ _ dX0_invert_62 rfl ⟨by unfold iv_r; rw [if_pos hx0]; rfl, by unfold iv_v; rw [if_pos hx0]; exact hv, rfl, rfl⟩ hP hD hS
    | succ n ih =>
      intro k hk H locs ls hP hD hS hl
      have h5 : k < 5 := by omega
      refine lv_iload hx hb dX0_invert_23 (lv_at hl 0 rfl) ?_
      refine lv_iconst (v := nI 5) hx hb dX0_invert_25 (by decide) ?_
      refine lv_icmp_ge (tgt := 57) hx hb dX0_invert_26 (by decide) (fun hc => absurd hc (lq k h5)) (fun _ => ?_)
      refine lv_iload_n hx hb dX0_invert_29 rfl (lv_at hl 1 rfl) ?_
      refine lv_if_ne (tgt := 45) hx hb dX0_invert_30 (by decide) (fun hc => ?_) (fun hc => ?_)
      · refine lv_iconst (v := nI 1) hx hb dX0_invert_45 (by decide) ?_
        refine lv_goto (tgt := 50) hx hb dX0_invert_46 (by decide) ?_
        refine ti_ (nI (sm_ a1 (k + 1))) (sm_a hc) ?_
        refine lv_istore_n (lv' := [(3, .int (nI (sm_ a1 (k + 1)))), (4, .int (nI k)), (0, .ref h0), (1, .int p0), (2, .int p1)]) hx hb dX0_invert_50 rfl hl (by decide) rfl (fun ls hl => ?_)
        refine lv_iinc (v := nI (k + 1)) (lv' := [(4, .int (nI (k + 1))), (3, .int (nI (sm_ a1 (k + 1)))), (0, .ref h0), (1, .int p0), (2, .int p1)]) hx hb dX0_invert_51 hl (k := 1) rfl (ii_1 _) (by decide) rfl (fun ls hl => ?_)
        refine lv_goto (tgt := 23) hx hb dX0_invert_54 (by decide) ?_
        exact ih (k + 1) (by omega) _ _ _ hP hD hS (lv_sub hl [0, 1, 2, 3, 4] rfl)
      · refine lv_aload_n hx hb dX0_invert_33 rfl (lv_at hl 2 rfl) ?_
        refine va_get (D := D) (ci := 0) (v := .ref qa) (C := RX0) (T := TX0) (N := 7) hx hb hts in_X0 hown hK hP 0 rfl rfl 3 (by decide) (hts _ q43) (fun _ h9 => h9) rfl dX0_invert_34 ?_
        refine lv_iload hx hb dX0_invert_37 (lv_at hl 0 rfl) ?_
        refine la_ (v := a1 k) hx hb hK hP 4 rfl k rfl (by omega) (by decide) rfl dX0_invert_39 ?_
        refine lv_lconst (v := 0) hx hb dX0_invert_40 (by decide) ?_
        refine W.lcmp hx hb dX0_invert_41 ?_
        refine lv_if_eq (tgt := 49) hx hb dX0_invert_42 (by decide) (fun hd => ?_) (fun hd => ?_)
        · refine lv_iconst (v := nI 0) hx hb dX0_invert_49 (by decide) ?_
          refine ti_ (nI (sm_ a1 (k + 1))) (sm_c hc hd) ?_
          refine lv_istore_n (lv' := [(3, .int (nI (sm_ a1 (k + 1)))), (4, .int (nI k)), (0, .ref h0), (1, .int p0), (2, .int p1)]) hx hb dX0_invert_50 rfl hl (by decide) rfl (fun ls hl => ?_)
          refine lv_iinc (v := nI (k + 1)) (lv' := [(4, .int (nI (k + 1))), (3, .int (nI (sm_ a1 (k + 1)))), (0, .ref h0), (1, .int p0), (2, .int p1)]) hx hb dX0_invert_51 hl (k := 1) rfl (ii_1 _) (by decide) rfl (fun ls hl => ?_)
          refine lv_goto (tgt := 23) hx hb dX0_invert_54 (by decide) ?_
          exact ih (k + 1) (by omega) _ _ _ hP hD hS (lv_sub hl [0, 1, 2, 3, 4] rfl)
        · refine lv_iconst (v := nI 1) hx hb dX0_invert_45 (by decide) ?_
          refine lv_goto (tgt := 50) hx hb dX0_invert_46 (by decide) ?_
          refine ti_ (nI (sm_ a1 (k + 1))) (sm_b hd) ?_
          refine lv_istore_n (lv' := [(3, .int (nI (sm_ a1 (k + 1)))), (4, .int (nI k)), (0, .ref h0), (1, .int p0), (2, .int p1)]) hx hb dX0_invert_50 rfl hl (by decide) rfl (fun ls hl => ?_)
          refine lv_iinc (v := nI (k + 1)) (lv' := [(4, .int (nI (k + 1))), (3, .int (nI (sm_ a1 (k + 1)))), (0, .ref h0), (1, .int p0), (2, .int p1)]) hx hb dX0_invert_51 hl (k := 1) rfl (ii_1 _) (by decide) rfl (fun ls hl => ?_)
          refine lv_goto (tgt := 23) hx hb dX0_invert_54 (by decide) ?_
          exact ih (k + 1) (by omega) _ _ _ hP hD hS (lv_sub hl [0, 1, 2, 3, 4] rfl)
  exact lp 5 0 rfl _ _ _ hP hD hS (lv_sub hl [0, 1, 2, 3, 4] rfl)
end
section
/-! SMALL FACTS for the reference's bits -/
theorem bt_and (x : Int64) (n : Nat) : (wd_sr x n &&& 1) = 0 ↔ wd_g x n = false := by
  have one : ∀ j, j < 64 → wd_g 1 j = decide (j = 0) := by decide +kernel
  constructor
  · intro h
    have h2 := congrArg (fun y => wd_g y 0) h
    rw [wd_and, wd_srg, wd_0, one 0 (by decide)] at h2
    simpa using h2
  · intro h
    apply wd_ext
    intro j hj
    rw [wd_and, wd_srg, wd_0, one j hj]
    by_cases e : j = 0
    · subst e
      rw [Nat.add_zero, h]
      rfl
    · simp [e]
theorem bt_0 {x : Int64} {n : Nat} (h : lg_cmp (wd_sr x n &&& 1) 0 = 0) : nI 0 = nI (wd_g x n).toNat := by
  rw [(bt_and x n).mp ((lc_0 _).mp h)]
  rfl
theorem bt_1 {x : Int64} {n : Nat} (h : ¬ lg_cmp (wd_sr x n &&& 1) 0 = 0) : nI 1 = nI (wd_g x n).toNat := by
  cases e : wd_g x n
  · exact absurd ((lc_0 _).mpr ((bt_and x n).mpr e)) h
  · rfl
theorem bt_f {b : Bool} (h : nI b.toNat = 0) : b = false := by
  cases b
  · rfl
  · exact absurd h (by decide)
theorem bt_t {b : Bool} (h : ¬ nI b.toNat = 0) : b = true := by
  cases b
  · exact absurd rfl h
  · rfl
theorem rp_bit {F : Nat → Int64} {v : gf_V} (h : rp_ F v) (n : Nat) (hn : n < 320) : wd_g (F (n / 64)) (n % 64) = v.getLsbD n := by
  rw [h (n / 64) (by omega) (n % 64) (by omega)]
  congr 1
  omega
theorem ms_x_t {Z : Nat → Int64} {v : gf_V} (h : rp_ Z v) (e : wd_g (Z (282 / 64)) (282 % 64) = true) : rp_ (ms_fl (ms_fl (ms_fl (ms_fl (ms_mk (ms_sh Z)) 12) 7) 5) 0) (gf_x v) := by
  have h2 := ms_x_rp h
  unfold ms_x at h2
  rw [show wd_g (Z 4) 26 = true from e] at h2
  exact h2
theorem ms_x_f {Z : Nat → Int64} {v : gf_V} (h : rp_ Z v) (e : wd_g (Z (282 / 64)) (282 % 64) = false) : rp_ (ms_mk (ms_sh Z)) (gf_x v) := by
  have h2 := ms_x_rp h
  unfold ms_x at h2
  rw [show wd_g (Z 4) 26 = false from e] at h2
  exact h2
end
section
set_option maxHeartbeats 4000000 in
set_option maxRecDepth 100000 in
/-- mask(v) -/
theorem m1_mask (l : Launch) (D : va_G) (cA : ClassId) (qv : Nat) (fv : Nat → Int64) : MetV_ l yX1_mask cX1_mask 1 (rm_ 0 0) D cA [.ref qv] [ar_ qv cA 5 fv] (fun u : Nat → Int64 => u = ms_mk fv) (fun u => [ar_ qv cA 5 u]) := by
  refine metV_of (by decide) (Nat.le_of_ble_eq_true rfl) ?_
  intro p e s m below meth c A Q hx hb hml hown hts hK hA ret ls hP hD hl
  have hown : s.vm.findClass "Field283Model" = some m.cls := hown
  have hS : va_S A s.heap s.heap [] := va_S.rf
  have hl : lv_has ls 1 [(0, .ref qv)] := hl
  refine lv_aload_n hx hb dX1_mask_0 rfl (lv_at hl 0 rfl) ?_
  refine lv_iconst (v := nI 4) hx hb dX1_mask_1 (by decide) ?_
  refine lv_aload_n hx hb dX1_mask_2 rfl (lv_at hl 0 rfl) ?_
  refine lv_iconst (v := nI 4) hx hb dX1_mask_3 (by decide) ?_
  refine la_ (v := fv 4) hx hb hK hP 0 rfl 4 rfl (by decide) (by decide) rfl dX1_mask_4 ?_
  refine lv_ldc2 (v := 134217727) hx hb hown (hts _ q180) dX1_mask_5 ?_
  refine lv_land hx hb dX1_mask_8 ?_
  refine st_ hx hb hK hP hD hS 0 rfl 4 rfl (by decide) (by decide) dX1_mask_9 (fun g_1 H locs hg_1 hP hD hS => ?_)
  obtain rfl : g_1 = ms_mk fv := hg_1
  have hP : va_P D wk_Cl [ar_ qv cA 5 (ms_mk fv)] H := hP
  have hD : va_D A [ar_ qv cA 5 (ms_mk fv)] := hD
  exact ret (ms_mk fv) _ _ _ _ dX1_mask_10 rfl hP hD hS
set_option maxHeartbeats 4000000 in
set_option maxRecDepth 100000 in
/-- bit(v, i) -/
theorem m1_bit (l : Launch) (D : va_G) (cA : ClassId) (qv : Nat) (fv : Nat → Int64) (i : Nat) (hi : i < 320) : MetI_ l yX1_bit cX1_bit 2 .boolean (rm_ 0 0) D cA [.ref qv, .int (nI i)] [ar_ qv cA 5 fv] (fun (r : Int32) (_ : Unit) => r = nI (wd_g (fv (i / 64)) (i % 64)).toNat) (fun _ => [ar_ qv cA 5 fv]) := by
  refine metI_of (by decide) (Nat.le_of_ble_eq_true rfl) ?_
  intro p e s m below meth c A Q hx hb hml hown hts hK hA ret ls hP hD hl
  have hown : s.vm.findClass "Field283Model" = some m.cls := hown
  have hS : va_S A s.heap s.heap [] := va_S.rf
  have hl : lv_has ls 2 [(0, .ref qv), (1, .int (nI i))] := hl
  refine lv_aload_n hx hb dX1_bit_0 rfl (lv_at hl 0 rfl) ?_
  refine lv_iload_n hx hb dX1_bit_1 rfl (lv_at hl 1 rfl) ?_
  refine lv_bipush (v := nI 6) hx hb dX1_bit_2 (by decide) ?_
  refine lv_ishr hx hb dX1_bit_4 ?_
  refine ti_ (nI (i / 64)) (pk_shrN (by omega) _ 6 (by decide +kernel)) ?_
  refine la_ (v := fv (i / 64)) hx hb hK hP 0 rfl (i / 64) rfl (by omega) (by decide) rfl dX1_bit_5 ?_
  refine lv_iload_n hx hb dX1_bit_6 rfl (lv_at hl 1 rfl) ?_
  refine lv_bipush (v := nI 63) hx hb dX1_bit_7 (by decide) ?_
  refine lv_iand hx hb dX1_bit_9 ?_
  refine ti_ (nI (i % 64)) (pk_andN (by omega) 6 (by decide +kernel)) ?_
  refine lv_lushr (v := wd_sr (fv (i / 64)) (i % 64)) hx hb dX1_bit_10 (sh_r _ _ (by omega)) ?_
  refine lv_lconst (v := 1) hx hb dX1_bit_11 (by decide) ?_
  refine lv_land hx hb dX1_bit_12 ?_
  refine lv_lconst (v := 0) hx hb dX1_bit_13 (by decide) ?_
  refine W.lcmp hx hb dX1_bit_14 ?_
  refine lv_if_eq (tgt := 22) hx hb dX1_bit_15 (by decide) (fun hc => ?_) (fun hc => ?_)
  · refine lv_iconst (v := nI 0) hx hb dX1_bit_22 (by decide) ?_
    exact ret _ () _ _ _ _ dX1_bit_23 rfl (bt_0 hc) hP hD hS
  · refine lv_iconst (v := nI 1) hx hb dX1_bit_18 (by decide) ?_
    refine lv_goto (tgt := 23) hx hb dX1_bit_19 (by decide) ?_
    exact ret _ () _ _ _ _ dX1_bit_23 rfl (bt_1 hc) hP hD hS
set_option maxHeartbeats 4000000 in
set_option maxRecDepth 100000 in
/-- flip(v, i) -/
theorem m1_flip (l : Launch) (D : va_G) (cA : ClassId) (qv : Nat) (fv : Nat → Int64) (i : Nat) (hi : i < 320) : MetV_ l yX1_flip cX1_flip 2 (rm_ 0 0) D cA [.ref qv, .int (nI i)] [ar_ qv cA 5 fv] (fun u : Nat → Int64 => u = ms_fl fv i) (fun u => [ar_ qv cA 5 u]) := by
  refine metV_of (by decide) (Nat.le_of_ble_eq_true rfl) ?_
  intro p e s m below meth c A Q hx hb hml hown hts hK hA ret ls hP hD hl
  have hown : s.vm.findClass "Field283Model" = some m.cls := hown
  have hS : va_S A s.heap s.heap [] := va_S.rf
  have hl : lv_has ls 2 [(0, .ref qv), (1, .int (nI i))] := hl
  refine lv_aload_n hx hb dX1_flip_0 rfl (lv_at hl 0 rfl) ?_
  refine lv_iload_n hx hb dX1_flip_1 rfl (lv_at hl 1 rfl) ?_
  refine lv_bipush (v := nI 6) hx hb dX1_flip_2 (by decide) ?_
  refine lv_ishr hx hb dX1_flip_4 ?_
  refine ti_ (nI (i / 64)) (pk_shrN (by omega) _ 6 (by decide +kernel)) ?_
  refine lv_aload_n hx hb dX1_flip_5 rfl (lv_at hl 0 rfl) ?_
  refine lv_iload_n hx hb dX1_flip_6 rfl (lv_at hl 1 rfl) ?_
  refine lv_bipush (v := nI 6) hx hb dX1_flip_7 (by decide) ?_
  refine lv_ishr hx hb dX1_flip_9 ?_
  refine ti_ (nI (i / 64)) (pk_shrN (by omega) _ 6 (by decide +kernel)) ?_
  refine la_ (v := fv (i / 64)) hx hb hK hP 0 rfl (i / 64) rfl (by omega) (by decide) rfl dX1_flip_10 ?_
  refine lv_lconst (v := 1) hx hb dX1_flip_11 (by decide) ?_
  refine lv_iload_n hx hb dX1_flip_12 rfl (lv_at hl 1 rfl) ?_
  refine lv_bipush (v := nI 63) hx hb dX1_flip_13 (by decide) ?_
  refine lv_iand hx hb dX1_flip_15 ?_
  refine ti_ (nI (i % 64)) (pk_andN (by omega) 6 (by decide +kernel)) ?_
  refine lv_lshl (v := wd_sl 1 (i % 64)) hx hb dX1_flip_16 (sh_l _ _ (by omega)) ?_
  refine lv_lxor hx hb dX1_flip_17 ?_
  refine st_ hx hb hK hP hD hS 0 rfl (i / 64) rfl (by omega) (by decide) dX1_flip_18 (fun g_1 H locs hg_1 hP hD hS => ?_)
  obtain rfl : g_1 = ms_fl fv i := hg_1
  have hP : va_P D wk_Cl [ar_ qv cA 5 (ms_fl fv i)] H := hP
  have hD : va_D A [ar_ qv cA 5 (ms_fl fv i)] := hD
  exact ret (ms_fl fv i) _ _ _ _ dX1_flip_19 rfl hP hD hS
set_option maxHeartbeats 4000000 in
set_option maxRecDepth 100000 in
/-- take(to, r) -/
theorem m1_take (l : Launch) (D : va_G) (cA : ClassId) (h0 qf qn qx qy qz qa : Nat) (qt : Nat) (ff ft : Nat → Int64) (p0 : Int32) : MetV_ l yX1_take cX1_take 4 (rm_ 0 0) D cA [.ref h0, .ref qt, .int p0] [o1_ h0 qf qn qx qy qz qa, ar_ qf cA 20 ff, ar_ qt cA 5 ft] (fun u : Nat → Int64 => ∀ k, k < 5 → u k = ff (rg_ p0 * 5 + k)) (fun u => [o1_ h0 qf qn qx qy qz qa, ar_ qf cA 20 ff, ar_ qt cA 5 u]) := by
  refine metV_of (by decide) (Nat.le_of_ble_eq_true rfl) ?_
  intro p e s m below meth c A Q hx hb hml hown hts hK hA ret ls hP hD hl
  have hown : s.vm.findClass "Field283Model" = some m.cls := hown
  have hS : va_S A s.heap s.heap [] := va_S.rf
  have hl : lv_has ls 4 [(0, .ref h0), (1, .ref qt), (2, .int p0)] := hl
  have lq : ∀ k, k < 5 → ¬ nI 5 ≤ nI k := by decide +kernel
  have hrg := rg_lt p0
  refine lv_iconst (v := nI 0) hx hb dX1_take_0 (by decide) ?_
  refine lv_istore_n (lv' := [(3, .int (nI 0)), (0, .ref h0), (1, .ref qt), (2, .int p0)]) hx hb dX1_take_1 rfl hl (by decide) rfl (fun ls hl => ?_)
  have lp : ∀ (n k : Nat), k + n = 5 → ∀ (H : Heap) (locs : List Loc) (ls : Array Slot), va_P D wk_Cl [o1_ h0 qf qn qx qy qz qa, ar_ qf cA 20 ff, ar_ qt cA 5 (f0_ ft (fun k => ff (rg_ p0 * 5 + k)) k)] H → va_D A [o1_ h0 qf qn qx qy qz qa, ar_ qf cA 20 ff, ar_ qt cA 5 (f0_ ft (fun k => ff (rg_ p0 * 5 + k)) k)] → va_S A s.heap H locs → lv_has ls 4 [(3, .int (nI k)), (0, .ref h0), (1, .ref qt), (2, .int p0)] → W p l e (rm_ 0 0) s m ([.ref h0, .ref qt, .int p0] : List Value).toArray below meth c H locs 0 0 Q (F0 m 2 ls []) := by
    intro n
    induction n with
    | zero =>
      intro k hkk H locs ls hP hD hS hl
      obtain rfl : k = 5 := by omega
      refine lv_iload_n hx hb dX1_take_2 rfl (lv_at hl 0 rfl) ?_
      refine lv_iconst (v := nI 5) hx hb dX1_take_3 (by decide) ?_
      refine lv_icmp_ge (tgt := 28) hx hb dX1_take_4 (by decide) (fun _ => ?_) (fun hc => absurd (by decide) hc)
      exact ret (f0_ ft (fun k => ff (rg_ p0 * 5 + k)) 5) _ _ _ _ dX1_take_28 (fun k hk => f0_in ft (fun k => ff (rg_ p0 * 5 + k)) 5 k hk) hP hD hS
    | succ n ih =>
      intro k hkk H locs ls hP hD hS hl
      have hk : k < 5 := by omega
      refine lv_iload_n hx hb dX1_take_2 rfl (lv_at hl 0 rfl) ?_
      refine lv_iconst (v := nI 5) hx hb dX1_take_3 (by decide) ?_
      refine lv_icmp_ge (tgt := 28) hx hb dX1_take_4 (by decide) (fun hc => absurd hc (lq k hk)) (fun _ => ?_)
      refine lv_aload_n hx hb dX1_take_7 rfl (lv_at hl 2 rfl) ?_
      refine lv_iload_n hx hb dX1_take_8 rfl (lv_at hl 0 rfl) ?_
      refine lv_aload_n hx hb dX1_take_9 rfl (lv_at hl 1 rfl) ?_
      refine va_get (D := D) (ci := 1) (v := .ref qf) (C := RX1) (T := TX1) (N := 6) hx hb hts in_X1 hown hK hP 0 rfl rfl 0 (by decide) (hts _ q148) (fun _ h9 => h9) rfl dX1_take_10 ?_
      refine lv_iload_n hx hb dX1_take_13 rfl (lv_at hl 3 rfl) ?_
      refine lv_iconst (v := nI 3) hx hb dX1_take_14 (by decide) ?_
      refine lv_iand hx hb dX1_take_15 ?_
      refine ti_ (nI (rg_ p0)) (rg_and _) ?_
      refine lv_iconst (v := nI 5) hx hb dX1_take_16 (by decide) ?_
      refine lv_imul hx hb dX1_take_17 ?_
      refine ti_ (nI ((rg_ p0) * 5)) (pk_mul _ _) ?_
      refine lv_iload_n hx hb dX1_take_18 rfl (lv_at hl 0 rfl) ?_
      refine lv_iadd hx hb dX1_take_19 ?_
      refine ti_ (nI ((rg_ p0) * 5 + k)) (nI_add _ _) ?_
      refine la_ (v := ff ((rg_ p0) * 5 + k)) hx hb hK hP 1 rfl ((rg_ p0) * 5 + k) rfl (by omega) (by decide) rfl dX1_take_20 ?_
      refine st_ hx hb hK hP hD hS 2 rfl k rfl (by omega) (by decide) dX1_take_21 (fun g_1 H locs hg_1 hP hD hS => ?_)
      obtain rfl : g_1 = f0_ ft (fun k => ff (rg_ p0 * 5 + k)) (k + 1) := hg_1
      have hP : va_P D wk_Cl [o1_ h0 qf qn qx qy qz qa, ar_ qf cA 20 ff, ar_ qt cA 5 (f0_ ft (fun k => ff (rg_ p0 * 5 + k)) (k + 1))] H := hP
      have hD : va_D A [o1_ h0 qf qn qx qy qz qa, ar_ qf cA 20 ff, ar_ qt cA 5 (f0_ ft (fun k => ff (rg_ p0 * 5 + k)) (k + 1))] := hD
      refine lv_iinc (v := nI (k + 1)) (lv' := [(3, .int (nI (k + 1))), (0, .ref h0), (1, .ref qt), (2, .int p0)]) hx hb dX1_take_22 hl (k := 0) rfl (ii_1 _) (by decide) rfl (fun ls hl => ?_)
      refine lv_goto (tgt := 2) hx hb dX1_take_25 (by decide) ?_
      exact ih (k + 1) (by omega) _ _ _ hP hD hS (lv_sub hl [0, 1, 2, 3] rfl)
  exact lp 5 0 rfl _ _ _ hP hD hS (lv_sub hl [0, 1, 2, 3] rfl)
set_option maxHeartbeats 4000000 in
set_option maxRecDepth 100000 in
/-- give(r, from) -/
theorem m1_give (l : Launch) (D : va_G) (cA : ClassId) (h0 qf qn qx qy qz qa : Nat) (qs : Nat) (ff fs : Nat → Int64) (p0 : Int32) : MetV_ l yX1_give cX1_give 4 (rm_ 0 0) D cA [.ref h0, .int p0, .ref qs] [o1_ h0 qf qn qx qy qz qa, ar_ qf cA 20 ff, ar_ qs cA 5 fs] (fun u : Nat → Int64 => u = rs_ ff (rg_ p0) fs) (fun u => [o1_ h0 qf qn qx qy qz qa, ar_ qf cA 20 u, ar_ qs cA 5 fs]) := by
  refine metV_of (by decide) (Nat.le_of_ble_eq_true rfl) ?_
  intro p e s m below meth c A Q hx hb hml hown hts hK hA ret ls hP hD hl
  have hown : s.vm.findClass "Field283Model" = some m.cls := hown
  have hS : va_S A s.heap s.heap [] := va_S.rf
  have hl : lv_has ls 4 [(0, .ref h0), (1, .int p0), (2, .ref qs)] := hl
  have lq : ∀ k, k < 5 → ¬ nI 5 ≤ nI k := by decide +kernel
  have hrg := rg_lt p0
  refine lv_iconst (v := nI 0) hx hb dX1_give_0 (by decide) ?_
  refine lv_istore_n (lv' := [(3, .int (nI 0)), (0, .ref h0), (1, .int p0), (2, .ref qs)]) hx hb dX1_give_1 rfl hl (by decide) rfl (fun ls hl => ?_)
  have lp : ∀ (n k : Nat), k + n = 5 → ∀ (H : Heap) (locs : List Loc) (ls : Array Slot), va_P D wk_Cl [o1_ h0 qf qn qx qy qz qa, ar_ qf cA 20 (fl_ ff fs (rg_ p0 * 5) k), ar_ qs cA 5 fs] H → va_D A [o1_ h0 qf qn qx qy qz qa, ar_ qf cA 20 (fl_ ff fs (rg_ p0 * 5) k), ar_ qs cA 5 fs] → va_S A s.heap H locs → lv_has ls 4 [(3, .int (nI k)), (0, .ref h0), (1, .int p0), (2, .ref qs)] → W p l e (rm_ 0 0) s m ([.ref h0, .int p0, .ref qs] : List Value).toArray below meth c H locs 0 0 Q (F0 m 2 ls []) := by
    intro n
    induction n with
    | zero =>
      intro k hkk H locs ls hP hD hS hl
      obtain rfl : k = 5 := by omega
      refine lv_iload_n hx hb dX1_give_2 rfl (lv_at hl 0 rfl) ?_
      refine lv_iconst (v := nI 5) hx hb dX1_give_3 (by decide) ?_
      refine lv_icmp_ge (tgt := 28) hx hb dX1_give_4 (by decide) (fun _ => ?_) (fun hc => absurd (by decide) hc)
      exact ret (fl_ ff fs (rg_ p0 * 5) 5) _ _ _ _ dX1_give_28 (rs_fl ff fs (rg_ p0)) hP hD hS
    | succ n ih =>
      intro k hkk H locs ls hP hD hS hl
      have hk : k < 5 := by omega
      refine lv_iload_n hx hb dX1_give_2 rfl (lv_at hl 0 rfl) ?_
      refine lv_iconst (v := nI 5) hx hb dX1_give_3 (by decide) ?_
      refine lv_icmp_ge (tgt := 28) hx hb dX1_give_4 (by decide) (fun hc => absurd hc (lq k hk)) (fun _ => ?_)
      refine lv_aload_n hx hb dX1_give_7 rfl (lv_at hl 1 rfl) ?_
      refine va_get (D := D) (ci := 1) (v := .ref qf) (C := RX1) (T := TX1) (N := 6) hx hb hts in_X1 hown hK hP 0 rfl rfl 0 (by decide) (hts _ q148) (fun _ h9 => h9) rfl dX1_give_8 ?_
      refine lv_iload_n hx hb dX1_give_11 rfl (lv_at hl 2 rfl) ?_
      refine lv_iconst (v := nI 3) hx hb dX1_give_12 (by decide) ?_
      refine lv_iand hx hb dX1_give_13 ?_
      refine ti_ (nI (rg_ p0)) (rg_and _) ?_
      refine lv_iconst (v := nI 5) hx hb dX1_give_14 (by decide) ?_
      refine lv_imul hx hb dX1_give_15 ?_
      refine ti_ (nI ((rg_ p0) * 5)) (pk_mul _ _) ?_
      refine lv_iload_n hx hb dX1_give_16 rfl (lv_at hl 0 rfl) ?_
      refine lv_iadd hx hb dX1_give_17 ?_
      refine ti_ (nI ((rg_ p0) * 5 + k)) (nI_add _ _) ?_
      refine lv_aload_n hx hb dX1_give_18 rfl (lv_at hl 3 rfl) ?_
      refine lv_iload_n hx hb dX1_give_19 rfl (lv_at hl 0 rfl) ?_
      refine la_ (v := fs k) hx hb hK hP 2 rfl k rfl (by omega) (by decide) rfl dX1_give_20 ?_
      refine st_ hx hb hK hP hD hS 1 rfl ((rg_ p0) * 5 + k) rfl (by omega) (by decide) dX1_give_21 (fun g_1 H locs hg_1 hP hD hS => ?_)
      obtain rfl : g_1 = fl_ ff fs (rg_ p0 * 5) (k + 1) := hg_1
      have hP : va_P D wk_Cl [o1_ h0 qf qn qx qy qz qa, ar_ qf cA 20 (fl_ ff fs (rg_ p0 * 5) (k + 1)), ar_ qs cA 5 fs] H := hP
      have hD : va_D A [o1_ h0 qf qn qx qy qz qa, ar_ qf cA 20 (fl_ ff fs (rg_ p0 * 5) (k + 1)), ar_ qs cA 5 fs] := hD
      refine lv_iinc (v := nI (k + 1)) (lv' := [(3, .int (nI (k + 1))), (0, .ref h0), (1, .int p0), (2, .ref qs)]) hx hb dX1_give_22 hl (k := 0) rfl (ii_1 _) (by decide) rfl (fun ls hl => ?_)
      refine lv_goto (tgt := 2) hx hb dX1_give_25 (by decide) ?_
      exact ih (k + 1) (by omega) _ _ _ hP hD hS (lv_sub hl [0, 1, 2, 3] rfl)
  exact lp 5 0 rfl _ _ _ hP hD hS (lv_sub hl [0, 1, 2, 3] rfl)
set_option maxHeartbeats 4000000 in
set_option maxRecDepth 100000 in
/-- copy(to, from) -/
theorem m1_copy (l : Launch) (D : va_G) (cA : ClassId) (h0 qf qn qx qy qz qa : Nat) (qt qs : Nat) (ft fs : Nat → Int64) : MetV_ l yX1_copy cX1_copy 4 (rm_ 0 0) D cA [.ref h0, .ref qt, .ref qs] [o1_ h0 qf qn qx qy qz qa, ar_ qt cA 5 ft, ar_ qs cA 5 fs] (fun u : Nat → Int64 => ∀ k, k < 5 → u k = fs k) (fun u => [o1_ h0 qf qn qx qy qz qa, ar_ qt cA 5 u, ar_ qs cA 5 fs]) := by
  refine metV_of (by decide) (Nat.le_of_ble_eq_true rfl) ?_
  intro p e s m below meth c A Q hx hb hml hown hts hK hA ret ls hP hD hl
  have hown : s.vm.findClass "Field283Model" = some m.cls := hown
  have hS : va_S A s.heap s.heap [] := va_S.rf
  have hl : lv_has ls 4 [(0, .ref h0), (1, .ref qt), (2, .ref qs)] := hl
  have lq : ∀ k, k < 5 → ¬ nI 5 ≤ nI k := by decide +kernel
  refine lv_iconst (v := nI 0) hx hb dX1_copy_0 (by decide) ?_
  refine lv_istore_n (lv' := [(3, .int (nI 0)), (0, .ref h0), (1, .ref qt), (2, .ref qs)]) hx hb dX1_copy_1 rfl hl (by decide) rfl (fun ls hl => ?_)
  have lp : ∀ (n k : Nat), k + n = 5 → ∀ (H : Heap) (locs : List Loc) (ls : Array Slot), va_P D wk_Cl [o1_ h0 qf qn qx qy qz qa, ar_ qt cA 5 (f0_ ft fs k), ar_ qs cA 5 fs] H → va_D A [o1_ h0 qf qn qx qy qz qa, ar_ qt cA 5 (f0_ ft fs k), ar_ qs cA 5 fs] → va_S A s.heap H locs → lv_has ls 4 [(3, .int (nI k)), (0, .ref h0), (1, .ref qt), (2, .ref qs)] → W p l e (rm_ 0 0) s m ([.ref h0, .ref qt, .ref qs] : List Value).toArray below meth c H locs 0 0 Q (F0 m 2 ls []) := by
    intro n
    induction n with
    | zero =>
      intro k hkk H locs ls hP hD hS hl
      obtain rfl : k = 5 := by omega
      refine lv_iload_n hx hb dX1_copy_2 rfl (lv_at hl 0 rfl) ?_
      refine lv_iconst (v := nI 5) hx hb dX1_copy_3 (by decide) ?_
      refine lv_icmp_ge (tgt := 19) hx hb dX1_copy_4 (by decide) (fun _ => ?_) (fun hc => absurd (by decide) hc)
      exact ret (f0_ ft fs 5) _ _ _ _ dX1_copy_19 (fun k hk => f0_in ft fs 5 k hk) hP hD hS
    | succ n ih =>
      intro k hkk H locs ls hP hD hS hl
      have hk : k < 5 := by omega
      refine lv_iload_n hx hb dX1_copy_2 rfl (lv_at hl 0 rfl) ?_
      refine lv_iconst (v := nI 5) hx hb dX1_copy_3 (by decide) ?_
      refine lv_icmp_ge (tgt := 19) hx hb dX1_copy_4 (by decide) (fun hc => absurd hc (lq k hk)) (fun _ => ?_)
      refine lv_aload_n hx hb dX1_copy_7 rfl (lv_at hl 2 rfl) ?_
      refine lv_iload_n hx hb dX1_copy_8 rfl (lv_at hl 0 rfl) ?_
      refine lv_aload_n hx hb dX1_copy_9 rfl (lv_at hl 3 rfl) ?_
      refine lv_iload_n hx hb dX1_copy_10 rfl (lv_at hl 0 rfl) ?_
      refine la_ (v := fs k) hx hb hK hP 2 rfl k rfl (by omega) (by decide) rfl dX1_copy_11 ?_
      refine st_ hx hb hK hP hD hS 1 rfl k rfl (by omega) (by decide) dX1_copy_12 (fun g_1 H locs hg_1 hP hD hS => ?_)
      obtain rfl : g_1 = f0_ ft fs (k + 1) := hg_1
      have hP : va_P D wk_Cl [o1_ h0 qf qn qx qy qz qa, ar_ qt cA 5 (f0_ ft fs (k + 1)), ar_ qs cA 5 fs] H := hP
      have hD : va_D A [o1_ h0 qf qn qx qy qz qa, ar_ qt cA 5 (f0_ ft fs (k + 1)), ar_ qs cA 5 fs] := hD
      refine lv_iinc (v := nI (k + 1)) (lv' := [(3, .int (nI (k + 1))), (0, .ref h0), (1, .ref qt), (2, .ref qs)]) hx hb dX1_copy_13 hl (k := 0) rfl (ii_1 _) (by decide) rfl (fun ls hl => ?_)
      refine lv_goto (tgt := 2) hx hb dX1_copy_16 (by decide) ?_
      exact ih (k + 1) (by omega) _ _ _ hP hD hS (lv_sub hl [0, 1, 2, 3] rfl)
  exact lp 5 0 rfl _ _ _ hP hD hS (lv_sub hl [0, 1, 2, 3] rfl)
end
section
set_option maxHeartbeats 4000000 in
set_option maxRecDepth 100000 in
/-- times(p, q) -/
theorem m1_times (l : Launch) (D : va_G) (cA : ClassId) (h0 qf qn qx qy qz qa : Nat) (qp qq : Nat) (fz fp fq : Nat → Int64) (vp vq : gf_V) (hvp : rp_ fp vp) (hvq : rp_ fq vq) : MetV_ l yX1_times cX1_times 6 (rm_ 1 21) D cA [.ref h0, .ref qp, .ref qq] [o1_ h0 qf qn qx qy qz qa, ar_ qz cA 5 fz, ar_ qp cA 5 fp, ar_ qq cA 5 fq] (fun u : Nat → Int64 => rp_ u (gf_mul vp vq)) (fun u => [o1_ h0 qf qn qx qy qz qa, ar_ qz cA 5 u, ar_ qp cA 5 fp, ar_ qq cA 5 fq]) := by
  refine metV_of (by decide) (Nat.le_of_ble_eq_true rfl) ?_
  intro p e s m below meth c A Q hx hb hml hown hts hK hA ret ls hP hD hl
  have hown : s.vm.findClass "Field283Model" = some m.cls := hown
  have hS : va_S A s.heap s.heap [] := va_S.rf
  have hl : lv_has ls 6 [(0, .ref h0), (1, .ref qp), (2, .ref qq)] := hl
  have lq : ∀ k, k < 5 → ¬ nI 5 ≤ nI k := by decide +kernel
  have tq : ∀ t, t < 4 → ¬ nI (4 - t) ≤ 0 := by decide +kernel
  refine lv_iconst (v := nI 0) hx hb dX1_times_0 (by decide) ?_
  refine lv_istore_n (lv' := [(3, .int (nI 0)), (0, .ref h0), (1, .ref qp), (2, .ref qq)]) hx hb dX1_times_1 rfl hl (by decide) rfl (fun ls hl => ?_)
  have lp : ∀ (n k : Nat), k + n = 5 → ∀ (H : Heap) (locs : List Loc) (ls : Array Slot), va_P D wk_Cl [o1_ h0 qf qn qx qy qz qa, ar_ qz cA 5 (f0_ fz (fun _ => 0) k), ar_ qp cA 5 fp, ar_ qq cA 5 fq] H → va_D A [o1_ h0 qf qn qx qy qz qa, ar_ qz cA 5 (f0_ fz (fun _ => 0) k), ar_ qp cA 5 fp, ar_ qq cA 5 fq] → va_S A s.heap H locs → lv_has ls 6 [(3, .int (nI k)), (0, .ref h0), (1, .ref qp), (2, .ref qq)] → W p l e (rm_ 1 21) s m ([.ref h0, .ref qp, .ref qq] : List Value).toArray below meth c H locs 0 0 Q (F0 m 2 ls []) := by
    intro n
    induction n with
    | zero =>
      intro k hkk H locs ls hP hD hS hl
      obtain rfl : k = 5 := by omega
      refine lv_iload_n hx hb dX1_times_2 rfl (lv_at hl 0 rfl) ?_
      refine lv_iconst (v := nI 5) hx hb dX1_times_3 (by decide) ?_
      refine lv_icmp_ge (tgt := 20) hx hb dX1_times_4 (by decide) (fun _ => ?_) (fun hc => absurd (by decide) hc)
      refine lv_sipush (v := nI 282) hx hb dX1_times_20 (by decide) ?_
      refine ti_ (nI 283 + (-1)) (by decide +kernel) ?_
      refine lv_istore_n (lv' := [(3, .int (nI 283 + (-1))), (0, .ref h0), (1, .ref qp), (2, .ref qq)]) hx hb dX1_times_23 rfl hl (by decide) rfl (fun ls hl => ?_)
      have l2 : ∀ (n : Nat) (fz : Nat → Int64) (vz : gf_V), n ≤ 283 → rp_ fz vz → gf_xn n vz ^^^ gf_S n (fun i => gf_b (vq.getLsbD i) (gf_xn i vp)) = gf_mul vp vq → ∀ (H : Heap) (locs : List Loc) (ls : Array Slot), va_P D wk_Cl [o1_ h0 qf qn qx qy qz qa, ar_ qz cA 5 fz, ar_ qp cA 5 fp, ar_ qq cA 5 fq] H → va_D A [o1_ h0 qf qn qx qy qz qa, ar_ qz cA 5 fz, ar_ qp cA 5 fp, ar_ qq cA 5 fq] → va_S A s.heap H locs → lv_has ls 6 [(3, .int (nI n + (-1))), (0, .ref h0), (1, .ref qp), (2, .ref qq)] → W p l e (rm_ 1 21) s m ([.ref h0, .ref qp, .ref qq] : List Value).toArray below meth c H locs 0 0 Q (F0 m 24 ls []) := by
        intro n
        induction n with
        | zero =>
          intro fz vz hn hz he H locs ls hP hD hS hl
          refine lv_iload_n hx hb dX1_times_24 rfl (lv_at hl 0 rfl) ?_
          refine lv_if_lt (tgt := 191) hx hb dX1_times_25 (by decide) (fun _ => ?_) (fun hc => absurd (by decide) hc)
          have he : vz ^^^ 0#283 = gf_mul vp vq := he
          rw [BitVec.xor_zero] at he
          exact ret fz _ _ _ _ dX1_times_191 (he ▸ hz) hP hD hS
        | succ n ih =>
          intro fz vz hn hz he H locs ls hP hD hS hl
          rw [pk_m1] at hl
          have k185 : ∀ (g : Nat → Int64), rp_ g (gf_x vz ^^^ gf_b (vq.getLsbD n) vp) → ∀ (H : Heap) (locs : List Loc) (ls : Array Slot), va_P D wk_Cl [o1_ h0 qf qn qx qy qz qa, ar_ qz cA 5 g, ar_ qp cA 5 fp, ar_ qq cA 5 fq] H → va_D A [o1_ h0 qf qn qx qy qz qa, ar_ qz cA 5 g, ar_ qp cA 5 fp, ar_ qq cA 5 fq] → va_S A s.heap H locs → lv_has ls 6 [(3, .int (nI n)), (0, .ref h0), (1, .ref qp), (2, .ref qq)] → W p l e (rm_ 1 21) s m ([.ref h0, .ref qp, .ref qq] : List Value).toArray below meth c H locs 0 0 Q (F0 m 185 ls []) := by
            intro g hg H locs ls hP hD hS hl
            refine lv_iinc (v := nI n + (-1)) (lv' := [(3, .int (nI n + (-1))), (0, .ref h0), (1, .ref qp), (2, .ref qq)]) hx hb dX1_times_185 hl (k := 0) rfl (ii_m n) (by decide) rfl (fun ls hl => ?_)
            refine lv_goto (tgt := 24) hx hb dX1_times_188 (by decide) ?_
            exact ih g (gf_x vz ^^^ gf_b (vq.getLsbD n) vp) (by omega) hg (mh_step vp vq vz n he) _ _ _ hP hD hS (lv_sub hl [0, 1, 2, 3] rfl)
          have k143 : ∀ (g : Nat → Int64), rp_ g (gf_x vz) → ∀ (H : Heap) (locs : List Loc) (ls : Array Slot), va_P D wk_Cl [o1_ h0 qf qn qx qy qz qa, ar_ qz cA 5 g, ar_ qp cA 5 fp, ar_ qq cA 5 fq] H → va_D A [o1_ h0 qf qn qx qy qz qa, ar_ qz cA 5 g, ar_ qp cA 5 fp, ar_ qq cA 5 fq] → va_S A s.heap H locs → lv_has ls 6 [(3, .int (nI n)), (0, .ref h0), (1, .ref qp), (2, .ref qq)] → W p l e (rm_ 1 21) s m ([.ref h0, .ref qp, .ref qq] : List Value).toArray below meth c H locs 0 0 Q (F0 m 143 ls []) := by
            intro g hg H locs ls hP hD hS hl
            refine lv_aload_n hx hb dX1_times_143 rfl (lv_at hl 3 rfl) ?_
            refine lv_iload_n hx hb dX1_times_144 rfl (lv_at hl 0 rfl) ?_
            refine cv_SI (n := 2) (As := [.ref qq, .int (nI n)]) (rest := []) (wr := [o1_ h0 qf qn qx qy qz qa, ar_ qz cA 5 g, ar_ qp cA 5 fp]) (w2 := fun u : Unit => [o1_ h0 qf qn qx qy qz qa, ar_ qz cA 5 g, ar_ qp cA 5 fp, ar_ qq cA 5 fq]) hx hb hml hown hts hK (m1_bit l D cA qq fq n (by omega)) (lw_S q213 q214 q12 q215) (by decide +kernel) rfl ⟨rfl, rfl⟩ ⟨Nat.le_of_ble_eq_true rfl, Nat.le_of_ble_eq_true rfl⟩ ⟨Nat.zero_le _, Nat.zero_le _⟩ hP hD hS hA [3] [0, 1, 2] [0, 1, 2, 3] rfl rfl (by decide) (by decide) (by decide) (by decide) (fun _ => rfl) hl.1 rfl (Nat.le_of_ble_eq_true rfl) dX1_times_145 (fun bq u H locs hb2 hP hD hS => ?_)
            have hP : va_P D wk_Cl [o1_ h0 qf qn qx qy qz qa, ar_ qz cA 5 g, ar_ qp cA 5 fp, ar_ qq cA 5 fq] H := hP
            have hD : va_D A [o1_ h0 qf qn qx qy qz qa, ar_ qz cA 5 g, ar_ qp cA 5 fp, ar_ qq cA 5 fq] := hD
            rw [rp_bit hvq n (by omega)] at hb2
            subst hb2
            refine lv_if_eq (tgt := 185) hx hb dX1_times_148 (by decide) (fun hc => ?_) (fun hc => ?_)
            · refine k185 g ?_ _ _ _ hP hD hS (lv_sub hl [0, 1, 2, 3] rfl)
              rw [bt_f hc]
              show rp_ g (gf_x vz ^^^ 0#283)
              rw [BitVec.xor_zero]
              exact hg
            · refine lv_iconst (v := nI 0) hx hb dX1_times_151 (by decide) ?_
              refine lv_istore (lv' := [(5, .int (nI 0)), (3, .int (nI n)), (0, .ref h0), (1, .ref qp), (2, .ref qq)]) hx hb dX1_times_152 hl (by decide) rfl (fun ls hl => ?_)
              have l3 : ∀ (nz k : Nat), k + nz = 5 → ∀ (H : Heap) (locs : List Loc) (ls : Array Slot), va_P D wk_Cl [o1_ h0 qf qn qx qy qz qa, ar_ qz cA 5 (f0_ g (fun k => g k ^^^ fp k) k), ar_ qp cA 5 fp, ar_ qq cA 5 fq] H → va_D A [o1_ h0 qf qn qx qy qz qa, ar_ qz cA 5 (f0_ g (fun k => g k ^^^ fp k) k), ar_ qp cA 5 fp, ar_ qq cA 5 fq] → va_S A s.heap H locs → lv_has ls 6 [(5, .int (nI k)), (3, .int (nI n)), (0, .ref h0), (1, .ref qp), (2, .ref qq)] → W p l e (rm_ 1 21) s m ([.ref h0, .ref qp, .ref qq] : List Value).toArray below meth c H locs 0 0 Q (F0 m 154 ls []) := by
                intro nz
                induction nz with
                | zero =>
                  intro k hkk H locs ls hP hD hS hl
                  obtain rfl : k = 5 := by omega
                  refine lv_iload hx hb dX1_times_154 (lv_at hl 0 rfl) ?_
                  refine lv_iconst (v := nI 5) hx hb dX1_times_156 (by decide) ?_
                  refine lv_icmp_ge (tgt := 185) hx hb dX1_times_157 (by decide) (fun _ => ?_) (fun hc => absurd (by decide) hc)
                  refine k185 (f0_ g (fun k => g k ^^^ fp k) 5) ?_ _ _ _ hP hD hS (lv_sub hl [1, 2, 3, 4] rfl)
                  rw [bt_t hc]
                  exact rp_congr (rp_xor hg hvp) (fun k hk => f0_in g (fun k => g k ^^^ fp k) 5 k hk)
                | succ nz ihz =>
                  intro k hkk H locs ls hP hD hS hl
                  have hk : k < 5 := by omega
                  refine lv_iload hx hb dX1_times_154 (lv_at hl 0 rfl) ?_
                  refine lv_iconst (v := nI 5) hx hb dX1_times_156 (by decide) ?_
                  refine lv_icmp_ge (tgt := 185) hx hb dX1_times_157 (by decide) (fun hc => absurd hc (lq k hk)) (fun _ => ?_)
                  refine lv_aload_n hx hb dX1_times_160 rfl (lv_at hl 2 rfl) ?_
                  refine va_get (D := D) (ci := 1) (v := .ref qz) (C := RX1) (T := TX1) (N := 6) hx hb hts in_X1 hown hK hP 0 rfl rfl 4 (by decide) (hts _ q152) (fun _ h9 => h9) rfl dX1_times_161 ?_
                  refine lv_iload hx hb dX1_times_164 (lv_at hl 0 rfl) ?_
                  refine lv_aload_n hx hb dX1_times_166 rfl (lv_at hl 2 rfl) ?_
                  refine va_get (D := D) (ci := 1) (v := .ref qz) (C := RX1) (T := TX1) (N := 6) hx hb hts in_X1 hown hK hP 0 rfl rfl 4 (by decide) (hts _ q152) (fun _ h9 => h9) rfl dX1_times_167 ?_
                  refine lv_iload hx hb dX1_times_170 (lv_at hl 0 rfl) ?_
                  refine la_ (v := g k) hx hb hK hP 1 rfl k rfl (by omega) (by decide) (f0_out g _ k k (Nat.le_refl k)) dX1_times_172 ?_
                  refine lv_aload_n hx hb dX1_times_173 rfl (lv_at hl 3 rfl) ?_
                  refine lv_iload hx hb dX1_times_174 (lv_at hl 0 rfl) ?_
                  refine la_ (v := fp k) hx hb hK hP 2 rfl k rfl (by omega) (by decide) rfl dX1_times_176 ?_
                  refine lv_lxor hx hb dX1_times_177 ?_
                  refine st_ hx hb hK hP hD hS 1 rfl k rfl (by omega) (by decide) dX1_times_178 (fun g_1 H locs hg_1 hP hD hS => ?_)
                  obtain rfl : g_1 = f0_ g (fun k => g k ^^^ fp k) (k + 1) := hg_1
                  have hP : va_P D wk_Cl [o1_ h0 qf qn qx qy qz qa, ar_ qz cA 5 (f0_ g (fun k => g k ^^^ fp k) (k + 1)), ar_ qp cA 5 fp, ar_ qq cA 5 fq] H := hP
                  have hD : va_D A [o1_ h0 qf qn qx qy qz qa, ar_ qz cA 5 (f0_ g (fun k => g k ^^^ fp k) (k + 1)), ar_ qp cA 5 fp, ar_ qq cA 5 fq] := hD
                  refine lv_iinc (v := nI (k + 1)) (lv' := [(5, .int (nI (k + 1))), (3, .int (nI n)), (0, .ref h0), (1, .ref qp), (2, .ref qq)]) hx hb dX1_times_179 hl (k := 0) rfl (ii_1 _) (by decide) rfl (fun ls hl => ?_)
                  refine lv_goto (tgt := 154) hx hb dX1_times_182 (by decide) ?_
                  exact ihz (k + 1) (by omega) _ _ _ hP hD hS (lv_sub hl [0, 1, 2, 3, 4] rfl)
              exact l3 5 0 rfl _ _ _ hP hD hS (lv_sub hl [0, 1, 2, 3, 4] rfl)
          refine lv_iload_n hx hb dX1_times_24 rfl (lv_at hl 0 rfl) ?_
          refine lv_if_lt (tgt := 191) hx hb dX1_times_25 (by decide) (fun hc => absurd hc (nI_pos (by omega))) (fun _ => ?_)
          refine lv_aload_n hx hb dX1_times_28 rfl (lv_at hl 1 rfl) ?_
          refine va_get (D := D) (ci := 1) (v := .ref qz) (C := RX1) (T := TX1) (N := 6) hx hb hts in_X1 hown hK hP 0 rfl rfl 4 (by decide) (hts _ q152) (fun _ h9 => h9) rfl dX1_times_29 ?_
          refine lv_sipush (v := nI 282) hx hb dX1_times_32 (by decide) ?_
          refine cv_SI (n := 2) (As := [.ref qz, .int (nI 282)]) (rest := []) (wr := [o1_ h0 qf qn qx qy qz qa, ar_ qp cA 5 fp, ar_ qq cA 5 fq]) (w2 := fun u : Unit => [o1_ h0 qf qn qx qy qz qa, ar_ qz cA 5 fz, ar_ qp cA 5 fp, ar_ qq cA 5 fq]) hx hb hml hown hts hK (m1_bit l D cA qz fz 282 (by decide)) (lw_S q213 q214 q12 q215) (by decide +kernel) rfl ⟨rfl, rfl⟩ ⟨Nat.le_of_ble_eq_true rfl, Nat.le_of_ble_eq_true rfl⟩ ⟨Nat.zero_le _, Nat.zero_le _⟩ hP hD hS hA [1] [0, 2, 3] [0, 3, 1, 2] rfl rfl (by decide) (by decide) (by decide) (by decide) (fun _ => rfl) hl.1 rfl (Nat.le_of_ble_eq_true rfl) dX1_times_35 (fun ov u H locs hov hP hD hS => ?_)
          have hP : va_P D wk_Cl [o1_ h0 qf qn qx qy qz qa, ar_ qz cA 5 fz, ar_ qp cA 5 fp, ar_ qq cA 5 fq] H := hP
          have hD : va_D A [o1_ h0 qf qn qx qy qz qa, ar_ qz cA 5 fz, ar_ qp cA 5 fp, ar_ qq cA 5 fq] := hD
          refine lv_istore (lv' := [(4, .int ov), (3, .int (nI n)), (0, .ref h0), (1, .ref qp), (2, .ref qq)]) hx hb dX1_times_38 hl (by decide) rfl (fun ls hl => ?_)
          refine lv_iconst (v := nI 4) hx hb dX1_times_40 (by decide) ?_
          refine lv_istore (lv' := [(5, .int (nI 4)), (4, .int ov), (3, .int (nI n)), (0, .ref h0), (1, .ref qp), (2, .ref qq)]) hx hb dX1_times_41 hl (by decide) rfl (fun ls hl => ?_)
          have hs4 : nI 4 = nI (4 - 0) := rfl
          have l4 : ∀ (nt t : Nat), t + nt = 4 → ∀ (H : Heap) (locs : List Loc) (ls : Array Slot), va_P D wk_Cl [o1_ h0 qf qn qx qy qz qa, ar_ qz cA 5 (ms_lp fz t), ar_ qp cA 5 fp, ar_ qq cA 5 fq] H → va_D A [o1_ h0 qf qn qx qy qz qa, ar_ qz cA 5 (ms_lp fz t), ar_ qp cA 5 fp, ar_ qq cA 5 fq] → va_S A s.heap H locs → lv_has ls 6 [(5, .int (nI (4 - t))), (4, .int ov), (3, .int (nI n)), (0, .ref h0), (1, .ref qp), (2, .ref qq)] → W p l e (rm_ 1 21) s m ([.ref h0, .ref qp, .ref qq] : List Value).toArray below meth c H locs 0 0 Q (F0 m 43 ls []) := by
            intro nt
            induction nt with
            | zero =>
              intro t ht H locs ls hP hD hS hl
              obtain rfl : t = 4 := by omega
              refine lv_iload hx hb dX1_times_43 (lv_at hl 0 rfl) ?_
              refine lv_if_le (tgt := 83) hx hb dX1_times_45 (by decide) (fun _ => ?_) (fun hc => absurd (by decide) hc)
              refine lv_aload_n hx hb dX1_times_83 rfl (lv_at hl 3 rfl) ?_
              refine va_get (D := D) (ci := 1) (v := .ref qz) (C := RX1) (T := TX1) (N := 6) hx hb hts in_X1 hown hK hP 0 rfl rfl 4 (by decide) (hts _ q152) (fun _ h9 => h9) rfl dX1_times_84 ?_
              refine lv_iconst (v := nI 0) hx hb dX1_times_87 (by decide) ?_
              refine lv_aload_n hx hb dX1_times_88 rfl (lv_at hl 3 rfl) ?_
              refine va_get (D := D) (ci := 1) (v := .ref qz) (C := RX1) (T := TX1) (N := 6) hx hb hts in_X1 hown hK hP 0 rfl rfl 4 (by decide) (hts _ q152) (fun _ h9 => h9) rfl dX1_times_89 ?_
              refine lv_iconst (v := nI 0) hx hb dX1_times_92 (by decide) ?_
              refine la_ (v := (ms_lp fz 4) 0) hx hb hK hP 1 rfl 0 rfl (by decide) (by decide) rfl dX1_times_93 ?_
              refine lv_iconst (v := nI 1) hx hb dX1_times_94 (by decide) ?_
              refine lv_lshl (v := wd_sl ((ms_lp fz 4) 0) 1) hx hb dX1_times_95 (sh_l _ _ (by decide)) ?_
              refine st_ hx hb hK hP hD hS 1 rfl 0 rfl (by decide) (by decide) dX1_times_96 (fun g_2 H locs hg_2 hP hD hS => ?_)
              obtain rfl : g_2 = ms_sh fz := hg_2
              have hP : va_P D wk_Cl [o1_ h0 qf qn qx qy qz qa, ar_ qz cA 5 (ms_sh fz), ar_ qp cA 5 fp, ar_ qq cA 5 fq] H := hP
              have hD : va_D A [o1_ h0 qf qn qx qy qz qa, ar_ qz cA 5 (ms_sh fz), ar_ qp cA 5 fp, ar_ qq cA 5 fq] := hD
              refine lv_aload_n hx hb dX1_times_97 rfl (lv_at hl 3 rfl) ?_
              refine va_get (D := D) (ci := 1) (v := .ref qz) (C := RX1) (T := TX1) (N := 6) hx hb hts in_X1 hown hK hP 0 rfl rfl 4 (by decide) (hts _ q152) (fun _ h9 => h9) rfl dX1_times_98 ?_
              refine cv_S (n := 1) (As := [.ref qz]) (rest := []) (wr := [o1_ h0 qf qn qx qy qz qa, ar_ qp cA 5 fp, ar_ qq cA 5 fq]) (w2 := fun u : (Nat → Int64) => [o1_ h0 qf qn qx qy qz qa, ar_ qz cA 5 u, ar_ qp cA 5 fp, ar_ qq cA 5 fq]) hx hb hml hown hts hK (m1_mask l D cA qz (ms_sh fz)) (lw_S q177 q178 q12 q179) (by decide +kernel) rfl ⟨rfl, rfl⟩ ⟨Nat.le_of_ble_eq_true rfl, Nat.le_of_ble_eq_true rfl⟩ ⟨Nat.zero_le _, Nat.zero_le _⟩ hP hD hS hA [1] [0, 2, 3] [0, 3, 1, 2] rfl rfl (by decide) (by decide) (by decide) (by decide) (fun _ => rfl) hl.1 rfl (Nat.le_of_ble_eq_true rfl) dX1_times_101 (fun z1 H locs hz1 hP hD hS => ?_)
              have hP : va_P D wk_Cl [o1_ h0 qf qn qx qy qz qa, ar_ qz cA 5 z1, ar_ qp cA 5 fp, ar_ qq cA 5 fq] H := hP
              have hD : va_D A [o1_ h0 qf qn qx qy qz qa, ar_ qz cA 5 z1, ar_ qp cA 5 fp, ar_ qq cA 5 fq] := hD
              refine lv_iload hx hb dX1_times_104 (lv_at hl 1 rfl) ?_
              subst hov
              refine lv_if_eq (tgt := 143) hx hb dX1_times_106 (by decide) (fun hc => ?_) (fun hc => ?_)
              · exact k143 z1 (hz1 ▸ ms_x_f hz (bt_f hc)) _ _ _ hP hD hS (lv_sub hl [2, 3, 4, 5] rfl)
              · refine lv_aload_n hx hb dX1_times_109 rfl (lv_at hl 3 rfl) ?_
                refine va_get (D := D) (ci := 1) (v := .ref qz) (C := RX1) (T := TX1) (N := 6) hx hb hts in_X1 hown hK hP 0 rfl rfl 4 (by decide) (hts _ q152) (fun _ h9 => h9) rfl dX1_times_110 ?_
                refine lv_bipush (v := nI 12) hx hb dX1_times_113 (by decide) ?_
                refine cv_S (n := 2) (As := [.ref qz, .int (nI 12)]) (rest := []) (wr := [o1_ h0 qf qn qx qy qz qa, ar_ qp cA 5 fp, ar_ qq cA 5 fq]) (w2 := fun u : (Nat → Int64) => [o1_ h0 qf qn qx qy qz qa, ar_ qz cA 5 u, ar_ qp cA 5 fp, ar_ qq cA 5 fq]) hx hb hml hown hts hK (m1_flip l D cA qz z1 12 (by decide)) (lw_S q202 q203 q12 q204) (by decide +kernel) rfl ⟨rfl, rfl⟩ ⟨Nat.le_of_ble_eq_true rfl, Nat.le_of_ble_eq_true rfl⟩ ⟨Nat.zero_le _, Nat.zero_le _⟩ hP hD hS hA [1] [0, 2, 3] [0, 3, 1, 2] rfl rfl (by decide) (by decide) (by decide) (by decide) (fun _ => rfl) hl.1 rfl (Nat.le_of_ble_eq_true rfl) dX1_times_115 (fun z2 H locs hz2 hP hD hS => ?_)
                have hP : va_P D wk_Cl [o1_ h0 qf qn qx qy qz qa, ar_ qz cA 5 z2, ar_ qp cA 5 fp, ar_ qq cA 5 fq] H := hP
                have hD : va_D A [o1_ h0 qf qn qx qy qz qa, ar_ qz cA 5 z2, ar_ qp cA 5 fp, ar_ qq cA 5 fq] := hD
                refine lv_aload_n hx hb dX1_times_118 rfl (lv_at hl 3 rfl) ?_
                refine va_get (D := D) (ci := 1) (v := .ref qz) (C := RX1) (T := TX1) (N := 6) hx hb hts in_X1 hown hK hP 0 rfl rfl 4 (by decide) (hts _ q152) (fun _ h9 => h9) rfl dX1_times_119 ?_
                refine lv_bipush (v := nI 7) hx hb dX1_times_122 (by decide) ?_
                refine cv_S (n := 2) (As := [.ref qz, .int (nI 7)]) (rest := []) (wr := [o1_ h0 qf qn qx qy qz qa, ar_ qp cA 5 fp, ar_ qq cA 5 fq]) (w2 := fun u : (Nat → Int64) => [o1_ h0 qf qn qx qy qz qa, ar_ qz cA 5 u, ar_ qp cA 5 fp, ar_ qq cA 5 fq]) hx hb hml hown hts hK (m1_flip l D cA qz z2 7 (by decide)) (lw_S q202 q203 q12 q204) (by decide +kernel) rfl ⟨rfl, rfl⟩ ⟨Nat.le_of_ble_eq_true rfl, Nat.le_of_ble_eq_true rfl⟩ ⟨Nat.zero_le _, Nat.zero_le _⟩ hP hD hS hA [1] [0, 2, 3] [0, 3, 1, 2] rfl rfl (by decide) (by decide) (by decide) (by decide) (fun _ => rfl) hl.1 rfl (Nat.le_of_ble_eq_true rfl) dX1_times_124 (fun z3 H locs hz3 hP hD hS => ?_)
                have hP : va_P D wk_Cl [o1_ h0 qf qn qx qy qz qa, ar_ qz cA 5 z3, ar_ qp cA 5 fp, ar_ qq cA 5 fq] H := hP
                have hD : va_D A [o1_ h0 qf qn qx qy qz qa, ar_ qz cA 5 z3, ar_ qp cA 5 fp, ar_ qq cA 5 fq] := hD
                refine lv_aload_n hx hb dX1_times_127 rfl (lv_at hl 3 rfl) ?_
                refine va_get (D := D) (ci := 1) (v := .ref qz) (C := RX1) (T := TX1) (N := 6) hx hb hts in_X1 hown hK hP 0 rfl rfl 4 (by decide) (hts _ q152) (fun _ h9 => h9) rfl dX1_times_128 ?_
                refine lv_iconst (v := nI 5) hx hb dX1_times_131 (by decide) ?_
                refine cv_S (n := 2) (As := [.ref qz, .int (nI 5)]) (rest := []) (wr := [o1_ h0 qf qn qx qy qz qa, ar_ qp cA 5 fp, ar_ qq cA 5 fq]) (w2 := fun u : (Nat → Int64) => [o1_ h0 qf qn qx qy qz qa, ar_ qz cA 5 u, ar_ qp cA 5 fp, ar_ qq cA 5 fq]) hx hb hml hown hts hK (m1_flip l D cA qz z3 5 (by decide)) (lw_S q202 q203 q12 q204) (by decide +kernel) rfl ⟨rfl, rfl⟩ ⟨Nat.le_of_ble_eq_true rfl, Nat.le_of_ble_eq_true rfl⟩ ⟨Nat.zero_le _, Nat.zero_le _⟩ hP hD hS hA [1] [0, 2, 3] [0, 3, 1, 2] rfl rfl (by decide) (by decide) (by decide) (by decide) (fun _ => rfl) hl.1 rfl (Nat.le_of_ble_eq_true rfl) dX1_times_132 (fun z4 H locs hz4 hP hD hS => ?_)
                have hP : va_P D wk_Cl [o1_ h0 qf qn qx qy qz qa, ar_ qz cA 5 z4, ar_ qp cA 5 fp, ar_ qq cA 5 fq] H := hP
                have hD : va_D A [o1_ h0 qf qn qx qy qz qa, ar_ qz cA 5 z4, ar_ qp cA 5 fp, ar_ qq cA 5 fq] := hD
                refine lv_aload_n hx hb dX1_times_135 rfl (lv_at hl 3 rfl) ?_
                refine va_get (D := D) (ci := 1) (v := .ref qz) (C := RX1) (T := TX1) (N := 6) hx hb hts in_X1 hown hK hP 0 rfl rfl 4 (by decide) (hts _ q152) (fun _ h9 => h9) rfl dX1_times_136 ?_
                refine lv_iconst (v := nI 0) hx hb dX1_times_139 (by decide) ?_
                refine cv_S (n := 2) (As := [.ref qz, .int (nI 0)]) (rest := []) (wr := [o1_ h0 qf qn qx qy qz qa, ar_ qp cA 5 fp, ar_ qq cA 5 fq]) (w2 := fun u : (Nat → Int64) => [o1_ h0 qf qn qx qy qz qa, ar_ qz cA 5 u, ar_ qp cA 5 fp, ar_ qq cA 5 fq]) hx hb hml hown hts hK (m1_flip l D cA qz z4 0 (by decide)) (lw_S q202 q203 q12 q204) (by decide +kernel) rfl ⟨rfl, rfl⟩ ⟨Nat.le_of_ble_eq_true rfl, Nat.le_of_ble_eq_true rfl⟩ ⟨Nat.zero_le _, Nat.zero_le _⟩ hP hD hS hA [1] [0, 2, 3] [0, 3, 1, 2] rfl rfl (by decide) (by decide) (by decide) (by decide) (fun _ => rfl) hl.1 rfl (Nat.le_of_ble_eq_true rfl) dX1_times_140 (fun z5 H locs hz5 hP hD hS => ?_)
                have hP : va_P D wk_Cl [o1_ h0 qf qn qx qy qz qa, ar_ qz cA 5 z5, ar_ qp cA 5 fp, ar_ qq cA 5 fq] H := hP
                have hD : va_D A [o1_ h0 qf qn qx qy qz qa, ar_ qz cA 5 z5, ar_ qp cA 5 fp, ar_ qq cA 5 fq] := hD
                subst hz1; subst hz2; subst hz3; subst hz4; subst hz5
                exact k143 _ (ms_x_t hz (bt_t hc)) _ _ _ hP hD hS (lv_sub hl [2, 3, 4, 5] rfl)
            | succ nt iht =>
              intro t ht H locs ls hP hD hS hl
              have h4 : t < 4 := by omega
              refine lv_iload hx hb dX1_times_43 (lv_at hl 0 rfl) ?_
              refine lv_if_le (tgt := 83) hx hb dX1_times_45 (by decide) (fun hc => absurd hc (tq t h4)) (fun _ => ?_)
              refine lv_aload_n hx hb dX1_times_48 rfl (lv_at hl 3 rfl) ?_
              refine va_get (D := D) (ci := 1) (v := .ref qz) (C := RX1) (T := TX1) (N := 6) hx hb hts in_X1 hown hK hP 0 rfl rfl 4 (by decide) (hts _ q152) (fun _ h9 => h9) rfl dX1_times_49 ?_
              refine lv_iload hx hb dX1_times_52 (lv_at hl 0 rfl) ?_
              refine lv_aload_n hx hb dX1_times_54 rfl (lv_at hl 3 rfl) ?_
              refine va_get (D := D) (ci := 1) (v := .ref qz) (C := RX1) (T := TX1) (N := 6) hx hb hts in_X1 hown hK hP 0 rfl rfl 4 (by decide) (hts _ q152) (fun _ h9 => h9) rfl dX1_times_55 ?_
              refine lv_iload hx hb dX1_times_58 (lv_at hl 0 rfl) ?_
              refine la_ (v := (ms_lp fz t) (4 - t)) hx hb hK hP 1 rfl (4 - t) rfl (by omega) (by decide) rfl dX1_times_60 ?_
              refine lv_iconst (v := nI 1) hx hb dX1_times_61 (by decide) ?_
              refine lv_lshl (v := wd_sl ((ms_lp fz t) (4 - t)) 1) hx hb dX1_times_62 (sh_l _ _ (by decide)) ?_
              refine lv_aload_n hx hb dX1_times_63 rfl (lv_at hl 3 rfl) ?_
              refine va_get (D := D) (ci := 1) (v := .ref qz) (C := RX1) (T := TX1) (N := 6) hx hb hts in_X1 hown hK hP 0 rfl rfl 4 (by decide) (hts _ q152) (fun _ h9 => h9) rfl dX1_times_64 ?_
              refine lv_iload hx hb dX1_times_67 (lv_at hl 0 rfl) ?_
              refine lv_iconst (v := nI 1) hx hb dX1_times_69 (by decide) ?_
              refine lv_isub hx hb dX1_times_70 ?_
              refine ti_ (nI ((4 - t) - 1)) (pk_sub (by omega)) ?_
              refine la_ (v := (ms_lp fz t) ((4 - t) - 1)) hx hb hK hP 1 rfl ((4 - t) - 1) rfl (by omega) (by decide) rfl dX1_times_71 ?_
              refine lv_bipush (v := nI 63) hx hb dX1_times_72 (by decide) ?_
              refine lv_lushr (v := wd_sr ((ms_lp fz t) ((4 - t) - 1)) 63) hx hb dX1_times_74 (sh_r _ _ (by decide)) ?_
              refine lv_lor hx hb dX1_times_75 ?_
              refine st_ hx hb hK hP hD hS 1 rfl (4 - t) rfl (by omega) (by decide) dX1_times_76 (fun g_3 H locs hg_3 hP hD hS => ?_)
              obtain rfl : g_3 = ms_lp fz (t + 1) := hg_3
              have hP : va_P D wk_Cl [o1_ h0 qf qn qx qy qz qa, ar_ qz cA 5 (ms_lp fz (t + 1)), ar_ qp cA 5 fp, ar_ qq cA 5 fq] H := hP
              have hD : va_D A [o1_ h0 qf qn qx qy qz qa, ar_ qz cA 5 (ms_lp fz (t + 1)), ar_ qp cA 5 fp, ar_ qq cA 5 fq] := hD
              refine lv_iinc (v := nI (4 - (t + 1))) (lv' := [(5, .int (nI (4 - (t + 1)))), (4, .int ov), (3, .int (nI n)), (0, .ref h0), (1, .ref qp), (2, .ref qq)]) hx hb dX1_times_77 hl (k := 0) rfl (ii_d (by omega)) (by decide) rfl (fun ls hl => ?_)
              refine lv_goto (tgt := 43) hx hb dX1_times_80 (by decide) ?_
              exact iht (t + 1) (by omega) _ _ _ hP hD hS (lv_sub hl [0, 1, 2, 3, 4, 5] rfl)
          exact l4 4 0 rfl _ _ _ hP hD hS (lv_sub hl [0, 1, 2, 3, 4, 5] rfl)
      exact l2 283 (f0_ fz (fun _ => 0) 5) 0#283 (Nat.le_refl _) (rp_congr rp_0 (fun k hk => f0_in fz (fun _ => 0) 5 k hk)) (mh_start vp vq) _ _ _ hP hD hS (lv_sub hl [0, 1, 2, 3] rfl)
    | succ n ih =>
      intro k hkk H locs ls hP hD hS hl
      have hk : k < 5 := by omega
      refine lv_iload_n hx hb dX1_times_2 rfl (lv_at hl 0 rfl) ?_
      refine lv_iconst (v := nI 5) hx hb dX1_times_3 (by decide) ?_
      refine lv_icmp_ge (tgt := 20) hx hb dX1_times_4 (by decide) (fun hc => absurd hc (lq k hk)) (fun _ => ?_)
      refine lv_aload_n hx hb dX1_times_7 rfl (lv_at hl 1 rfl) ?_
      refine va_get (D := D) (ci := 1) (v := .ref qz) (C := RX1) (T := TX1) (N := 6) hx hb hts in_X1 hown hK hP 0 rfl rfl 4 (by decide) (hts _ q152) (fun _ h9 => h9) rfl dX1_times_8 ?_
      refine lv_iload_n hx hb dX1_times_11 rfl (lv_at hl 0 rfl) ?_
      refine lv_lconst (v := 0) hx hb dX1_times_12 (by decide) ?_
      refine st_ hx hb hK hP hD hS 1 rfl k rfl (by omega) (by decide) dX1_times_13 (fun g_4 H locs hg_4 hP hD hS => ?_)
      obtain rfl : g_4 = f0_ fz (fun _ => 0) (k + 1) := hg_4
      have hP : va_P D wk_Cl [o1_ h0 qf qn qx qy qz qa, ar_ qz cA 5 (f0_ fz (fun _ => 0) (k + 1)), ar_ qp cA 5 fp, ar_ qq cA 5 fq] H := hP
      have hD : va_D A [o1_ h0 qf qn qx qy qz qa, ar_ qz cA 5 (f0_ fz (fun _ => 0) (k + 1)), ar_ qp cA 5 fp, ar_ qq cA 5 fq] := hD
      refine lv_iinc (v := nI (k + 1)) (lv' := [(3, .int (nI (k + 1))), (0, .ref h0), (1, .ref qp), (2, .ref qq)]) hx hb dX1_times_14 hl (k := 0) rfl (ii_1 _) (by decide) rfl (fun ls hl => ?_)
      refine lv_goto (tgt := 2) hx hb dX1_times_17 (by decide) ?_
      exact ih (k + 1) (by omega) _ _ _ hP hD hS (lv_sub hl [0, 1, 2, 3] rfl)
  exact lp 5 0 rfl _ _ _ hP hD hS (lv_sub hl [0, 1, 2, 3] rfl)
set_option maxHeartbeats 4000000 in
set_option maxRecDepth 100000 in
/-- times(p, q), p and q one row -/
theorem m1_times2 (l : Launch) (D : va_G) (cA : ClassId) (h0 qf qn qx qy qz qa : Nat) (qp : Nat) (fz fp : Nat → Int64) (vp : gf_V) (hvp : rp_ fp vp) : MetV_ l yX1_times cX1_times 6 (rm_ 1 21) D cA [.ref h0, .ref qp, .ref qp] [o1_ h0 qf qn qx qy qz qa, ar_ qz cA 5 fz, ar_ qp cA 5 fp] (fun u : Nat → Int64 => rp_ u (gf_mul vp vp)) (fun u => [o1_ h0 qf qn qx qy qz qa, ar_ qz cA 5 u, ar_ qp cA 5 fp]) := by
  refine metV_of (by decide) (Nat.le_of_ble_eq_true rfl) ?_
  intro p e s m below meth c A Q hx hb hml hown hts hK hA ret ls hP hD hl
  have hown : s.vm.findClass "Field283Model" = some m.cls := hown
  have hS : va_S A s.heap s.heap [] := va_S.rf
  have hl : lv_has ls 6 [(0, .ref h0), (1, .ref qp), (2, .ref qp)] := hl
  have lq : ∀ k, k < 5 → ¬ nI 5 ≤ nI k := by decide +kernel
  have tq : ∀ t, t < 4 → ¬ nI (4 - t) ≤ 0 := by decide +kernel
  refine lv_iconst (v := nI 0) hx hb dX1_times_0 (by decide) ?_
  refine lv_istore_n (lv' := [(3, .int (nI 0)), (0, .ref h0), (1, .ref qp), (2, .ref qp)]) hx hb dX1_times_1 rfl hl (by decide) rfl (fun ls hl => ?_)
  have lp : ∀ (n k : Nat), k + n = 5 → ∀ (H : Heap) (locs : List Loc) (ls : Array Slot), va_P D wk_Cl [o1_ h0 qf qn qx qy qz qa, ar_ qz cA 5 (f0_ fz (fun _ => 0) k), ar_ qp cA 5 fp] H → va_D A [o1_ h0 qf qn qx qy qz qa, ar_ qz cA 5 (f0_ fz (fun _ => 0) k), ar_ qp cA 5 fp] → va_S A s.heap H locs → lv_has ls 6 [(3, .int (nI k)), (0, .ref h0), (1, .ref qp), (2, .ref qp)] → W p l e (rm_ 1 21) s m ([.ref h0, .ref qp, .ref qp] : List Value).toArray below meth c H locs 0 0 Q (F0 m 2 ls []) := by
    intro n
    induction n with
    | zero =>
      intro k hkk H locs ls hP hD hS hl
      obtain rfl : k = 5 := by omega
      refine lv_iload_n hx hb dX1_times_2 rfl (lv_at hl 0 rfl) ?_
      refine lv_iconst (v := nI 5) hx hb dX1_times_3 (by decide) ?_
      refine lv_icmp_ge (tgt := 20) hx hb dX1_times_4 (by decide) (fun _ => ?_) (fun hc => absurd (by decide) hc)
      refine lv_sipush (v := nI 282) hx hb dX1_times_20 (by decide) ?_
      refine ti_ (nI 283 + (-1)) (by decide +kernel) ?_
      refine lv_istore_n (lv' := [(3, .int (nI 283 + (-1))), (0, .ref h0), (1, .ref qp), (2, .ref qp)]) hx hb dX1_times_23 rfl hl (by decide) rfl (fun ls hl => ?_)
      have l2 : ∀ (n : Nat) (fz : Nat → Int64) (vz : gf_V), n ≤ 283 → rp_ fz vz → gf_xn n vz ^^^ gf_S n (fun i => gf_b (vp.getLsbD i) (gf_xn i vp)) = gf_mul vp vp → ∀ (H : Heap) (locs : List Loc) (ls : Array Slot), va_P D wk_Cl [o1_ h0 qf qn qx qy qz qa, ar_ qz cA 5 fz, ar_ qp cA 5 fp] H → va_D A [o1_ h0 qf qn qx qy qz qa, ar_ qz cA 5 fz, ar_ qp cA 5 fp] → va_S A s.heap H locs → lv_has ls 6 [(3, .int (nI n + (-1))), (0, .ref h0), (1, .ref qp), (2, .ref qp)] → W p l e (rm_ 1 21) s m ([.ref h0, .ref qp, .ref qp] : List Value).toArray below meth c H locs 0 0 Q (F0 m 24 ls []) := by
        intro n
        induction n with
        | zero =>
          intro fz vz hn hz he H locs ls hP hD hS hl
          refine lv_iload_n hx hb dX1_times_24 rfl (lv_at hl 0 rfl) ?_
          refine lv_if_lt (tgt := 191) hx hb dX1_times_25 (by decide) (fun _ => ?_) (fun hc => absurd (by decide) hc)
          have he : vz ^^^ 0#283 = gf_mul vp vp := he
          rw [BitVec.xor_zero] at he
          exact ret fz _ _ _ _ dX1_times_191 (he ▸ hz) hP hD hS
        | succ n ih =>
          intro fz vz hn hz he H locs ls hP hD hS hl
          rw [pk_m1] at hl
          have k185 : ∀ (g : Nat → Int64), rp_ g (gf_x vz ^^^ gf_b (vp.getLsbD n) vp) → ∀ (H : Heap) (locs : List Loc) (ls : Array Slot), va_P D wk_Cl [o1_ h0 qf qn qx qy qz qa, ar_ qz cA 5 g, ar_ qp cA 5 fp] H → va_D A [o1_ h0 qf qn qx qy qz qa, ar_ qz cA 5 g, ar_ qp cA 5 fp] → va_S A s.heap H locs → lv_has ls 6 [(3, .int (nI n)), (0, .ref h0), (1, .ref qp), (2, .ref qp)] → W p l e (rm_ 1 21) s m ([.ref h0, .ref qp, .ref qp] : List Value).toArray below meth c H locs 0 0 Q (F0 m 185 ls []) := by
            intro g hg H locs ls hP hD hS hl
            refine lv_iinc (v := nI n + (-1)) (lv' := [(3, .int (nI n + (-1))), (0, .ref h0), (1, .ref qp), (2, .ref qp)]) hx hb dX1_times_185 hl (k := 0) rfl (ii_m n) (by decide) rfl (fun ls hl => ?_)
            refine lv_goto (tgt := 24) hx hb dX1_times_188 (by decide) ?_
            exact ih g (gf_x vz ^^^ gf_b (vp.getLsbD n) vp) (by omega) hg (mh_step vp vp vz n he) _ _ _ hP hD hS (lv_sub hl [0, 1, 2, 3] rfl)
          have k143 : ∀ (g : Nat → Int64), rp_ g (gf_x vz) → ∀ (H : Heap) (locs : List Loc) (ls : Array Slot), va_P D wk_Cl [o1_ h0 qf qn qx qy qz qa, ar_ qz cA 5 g, ar_ qp cA 5 fp] H → va_D A [o1_ h0 qf qn qx qy qz qa, ar_ qz cA 5 g, ar_ qp cA 5 fp] → va_S A s.heap H locs → lv_has ls 6 [(3, .int (nI n)), (0, .ref h0), (1, .ref qp), (2, .ref qp)] → W p l e (rm_ 1 21) s m ([.ref h0, .ref qp, .ref qp] : List Value).toArray below meth c H locs 0 0 Q (F0 m 143 ls []) := by
            intro g hg H locs ls hP hD hS hl
            refine lv_aload_n hx hb dX1_times_143 rfl (lv_at hl 3 rfl) ?_
            refine lv_iload_n hx hb dX1_times_144 rfl (lv_at hl 0 rfl) ?_
            refine cv_SI (n := 2) (As := [.ref qp, .int (nI n)]) (rest := []) (wr := [o1_ h0 qf qn qx qy qz qa, ar_ qz cA 5 g]) (w2 := fun u : Unit => [o1_ h0 qf qn qx qy qz qa, ar_ qz cA 5 g, ar_ qp cA 5 fp]) hx hb hml hown hts hK (m1_bit l D cA qp fp n (by omega)) (lw_S q213 q214 q12 q215) (by decide +kernel) rfl ⟨rfl, rfl⟩ ⟨Nat.le_of_ble_eq_true rfl, Nat.le_of_ble_eq_true rfl⟩ ⟨Nat.zero_le _, Nat.zero_le _⟩ hP hD hS hA [2] [0, 1] [0, 1, 2] rfl rfl (by decide) (by decide) (by decide) (by decide) (fun _ => rfl) hl.1 rfl (Nat.le_of_ble_eq_true rfl) dX1_times_145 (fun bq u H locs hb2 hP hD hS => ?_)
            have hP : va_P D wk_Cl [o1_ h0 qf qn qx qy qz qa, ar_ qz cA 5 g, ar_ qp cA 5 fp] H := hP
            have hD : va_D A [o1_ h0 qf qn qx qy qz qa, ar_ qz cA 5 g, ar_ qp cA 5 fp] := hD
            rw [rp_bit hvp n (by omega)] at hb2
            subst hb2
            refine lv_if_eq (tgt := 185) hx hb dX1_times_148 (by decide) (fun hc => ?_) (fun hc => ?_)
            · refine k185 g ?_ _ _ _ hP hD hS (lv_sub hl [0, 1, 2, 3] rfl)
              rw [bt_f hc]
              show rp_ g (gf_x vz ^^^ 0#283)
              rw [BitVec.xor_zero]
              exact hg
            · refine lv_iconst (v := nI 0) hx hb dX1_times_151 (by decide) ?_
              refine lv_istore (lv' := [(5, .int (nI 0)), (3, .int (nI n)), (0, .ref h0), (1, .ref qp), (2, .ref qp)]) hx hb dX1_times_152 hl (by decide) rfl (fun ls hl => ?_)
              have l3 : ∀ (nz k : Nat), k + nz = 5 → ∀ (H : Heap) (locs : List Loc) (ls : Array Slot), va_P D wk_Cl [o1_ h0 qf qn qx qy qz qa, ar_ qz cA 5 (f0_ g (fun k => g k ^^^ fp k) k), ar_ qp cA 5 fp] H → va_D A [o1_ h0 qf qn qx qy qz qa, ar_ qz cA 5 (f0_ g (fun k => g k ^^^ fp k) k), ar_ qp cA 5 fp] → va_S A s.heap H locs → lv_has ls 6 [(5, .int (nI k)), (3, .int (nI n)), (0, .ref h0), (1, .ref qp), (2, .ref qp)] → W p l e (rm_ 1 21) s m ([.ref h0, .ref qp, .ref qp] : List Value).toArray below meth c H locs 0 0 Q (F0 m 154 ls []) := by
                intro nz
                induction nz with
                | zero =>
                  intro k hkk H locs ls hP hD hS hl
                  obtain rfl : k = 5 := by omega
                  refine lv_iload hx hb dX1_times_154 (lv_at hl 0 rfl) ?_
                  refine lv_iconst (v := nI 5) hx hb dX1_times_156 (by decide) ?_
                  refine lv_icmp_ge (tgt := 185) hx hb dX1_times_157 (by decide) (fun _ => ?_) (fun hc => absurd (by decide) hc)
                  refine k185 (f0_ g (fun k => g k ^^^ fp k) 5) ?_ _ _ _ hP hD hS (lv_sub hl [1, 2, 3, 4] rfl)
                  rw [bt_t hc]
                  exact rp_congr (rp_xor hg hvp) (fun k hk => f0_in g (fun k => g k ^^^ fp k) 5 k hk)
                | succ nz ihz =>
                  intro k hkk H locs ls hP hD hS hl
                  have hk : k < 5 := by omega
                  refine lv_iload hx hb dX1_times_154 (lv_at hl 0 rfl) ?_
                  refine lv_iconst (v := nI 5) hx hb dX1_times_156 (by decide) ?_
                  refine lv_icmp_ge (tgt := 185) hx hb dX1_times_157 (by decide) (fun hc => absurd hc (lq k hk)) (fun _ => ?_)
                  refine lv_aload_n hx hb dX1_times_160 rfl (lv_at hl 2 rfl) ?_
                  refine va_get (D := D) (ci := 1) (v := .ref qz) (C := RX1) (T := TX1) (N := 6) hx hb hts in_X1 hown hK hP 0 rfl rfl 4 (by decide) (hts _ q152) (fun _ h9 => h9) rfl dX1_times_161 ?_
                  refine lv_iload hx hb dX1_times_164 (lv_at hl 0 rfl) ?_
                  refine lv_aload_n hx hb dX1_times_166 rfl (lv_at hl 2 rfl) ?_
                  refine va_get (D := D) (ci := 1) (v := .ref qz) (C := RX1) (T := TX1) (N := 6) hx hb hts in_X1 hown hK hP 0 rfl rfl 4 (by decide) (hts _ q152) (fun _ h9 => h9) rfl dX1_times_167 ?_
                  refine lv_iload hx hb dX1_times_170 (lv_at hl 0 rfl) ?_
                  refine la_ (v := g k) hx hb hK hP 1 rfl k rfl (by omega) (by decide) (f0_out g _ k k (Nat.le_refl k)) dX1_times_172 ?_
                  refine lv_aload_n hx hb dX1_times_173 rfl (lv_at hl 3 rfl) ?_
                  refine lv_iload hx hb dX1_times_174 (lv_at hl 0 rfl) ?_
                  refine la_ (v := fp k) hx hb hK hP 2 rfl k rfl (by omega) (by decide) rfl dX1_times_176 ?_
                  refine lv_lxor hx hb dX1_times_177 ?_
                  refine st_ hx hb hK hP hD hS 1 rfl k rfl (by omega) (by decide) dX1_times_178 (fun g_1 H locs hg_1 hP hD hS => ?_)
                  obtain rfl : g_1 = f0_ g (fun k => g k ^^^ fp k) (k + 1) := hg_1
                  have hP : va_P D wk_Cl [o1_ h0 qf qn qx qy qz qa, ar_ qz cA 5 (f0_ g (fun k => g k ^^^ fp k) (k + 1)), ar_ qp cA 5 fp] H := hP
                  have hD : va_D A [o1_ h0 qf qn qx qy qz qa, ar_ qz cA 5 (f0_ g (fun k => g k ^^^ fp k) (k + 1)), ar_ qp cA 5 fp] := hD
                  refine lv_iinc (v := nI (k + 1)) (lv' := [(5, .int (nI (k + 1))), (3, .int (nI n)), (0, .ref h0), (1, .ref qp), (2, .ref qp)]) hx hb dX1_times_179 hl (k := 0) rfl (ii_1 _) (by decide) rfl (fun ls hl => ?_)
                  refine lv_goto (tgt := 154) hx hb dX1_times_182 (by decide) ?_
                  exact ihz (k + 1) (by omega) _ _ _ hP hD hS (lv_sub hl [0, 1, 2, 3, 4] rfl)
              exact l3 5 0 rfl _ _ _ hP hD hS (lv_sub hl [0, 1, 2, 3, 4] rfl)
          refine lv_iload_n hx hb dX1_times_24 rfl (lv_at hl 0 rfl) ?_
          refine lv_if_lt (tgt := 191) hx hb dX1_times_25 (by decide) (fun hc => absurd hc (nI_pos (by omega))) (fun _ => ?_)
          refine lv_aload_n hx hb dX1_times_28 rfl (lv_at hl 1 rfl) ?_
          refine va_get (D := D) (ci := 1) (v := .ref qz) (C := RX1) (T := TX1) (N := 6) hx hb hts in_X1 hown hK hP 0 rfl rfl 4 (by decide) (hts _ q152) (fun _ h9 => h9) rfl dX1_times_29 ?_
          refine lv_sipush (v := nI 282) hx hb dX1_times_32 (by decide) ?_
          refine cv_SI (n := 2) (As := [.ref qz, .int (nI 282)]) (rest := []) (wr := [o1_ h0 qf qn qx qy qz qa, ar_ qp cA 5 fp]) (w2 := fun u : Unit => [o1_ h0 qf qn qx qy qz qa, ar_ qz cA 5 fz, ar_ qp cA 5 fp]) hx hb hml hown hts hK (m1_bit l D cA qz fz 282 (by decide)) (lw_S q213 q214 q12 q215) (by decide +kernel) rfl ⟨rfl, rfl⟩ ⟨Nat.le_of_ble_eq_true rfl, Nat.le_of_ble_eq_true rfl⟩ ⟨Nat.zero_le _, Nat.zero_le _⟩ hP hD hS hA [1] [0, 2] [0, 2, 1] rfl rfl (by decide) (by decide) (by decide) (by decide) (fun _ => rfl) hl.1 rfl (Nat.le_of_ble_eq_true rfl) dX1_times_35 (fun ov u H locs hov hP hD hS => ?_)
          have hP : va_P D wk_Cl [o1_ h0 qf qn qx qy qz qa, ar_ qz cA 5 fz, ar_ qp cA 5 fp] H := hP
          have hD : va_D A [o1_ h0 qf qn qx qy qz qa, ar_ qz cA 5 fz, ar_ qp cA 5 fp] := hD
          refine lv_istore (lv' := [(4, .int ov), (3, .int (nI n)), (0, .ref h0), (1, .ref qp), (2, .ref qp)]) hx hb dX1_times_38 hl (by decide) rfl (fun ls hl => ?_)
          refine lv_iconst (v := nI 4) hx hb dX1_times_40 (by decide) ?_
          refine lv_istore (lv' := [(5, .int (nI 4)), (4, .int ov), (3, .int (nI n)), (0, .ref h0), (1, .ref qp), (2, .ref qp)]) hx hb dX1_times_41 hl (by decide) rfl (fun ls hl => ?_)
          have hs4 : nI 4 = nI (4 - 0) := rfl
          have l4 : ∀ (nt t : Nat), t + nt = 4 → ∀ (H : Heap) (locs : List Loc) (ls : Array Slot), va_P D wk_Cl [o1_ h0 qf qn qx qy qz qa, ar_ qz cA 5 (ms_lp fz t), ar_ qp cA 5 fp] H → va_D A [o1_ h0 qf qn qx qy qz qa, ar_ qz cA 5 (ms_lp fz t), ar_ qp cA 5 fp] → va_S A s.heap H locs → lv_has ls 6 [(5, .int (nI (4 - t))), (4, .int ov), (3, .int (nI n)), (0, .ref h0), (1, .ref qp), (2, .ref qp)] → W p l e (rm_ 1 21) s m ([.ref h0, .ref qp, .ref qp] : List Value).toArray below meth c H locs 0 0 Q (F0 m 43 ls []) := by
            intro nt
            induction nt with
            | zero =>
              intro t ht H locs ls hP hD hS hl
              obtain rfl : t = 4 := by omega
              refine lv_iload hx hb dX1_times_43 (lv_at hl 0 rfl) ?_
              refine lv_if_le (tgt := 83) hx hb dX1_times_45 (by decide) (fun _ => ?_) (fun hc => absurd (by decide) hc)
              refine lv_aload_n hx hb dX1_times_83 rfl (lv_at hl 3 rfl) ?_
              refine va_get (D := D) (ci := 1) (v := .ref qz) (C := RX1) (T := TX1) (N := 6) hx hb hts in_X1 hown hK hP 0 rfl rfl 4 (by decide) (hts _ q152) (fun _ h9 => h9) rfl dX1_times_84 ?_
              refine lv_iconst (v := nI 0) hx hb dX1_times_87 (by decide) ?_
              refine lv_aload_n hx hb dX1_times_88 rfl (lv_at hl 3 rfl) ?_
              refine va_get (D := D) (ci := 1) (v := .ref qz) (C := RX1) (T := TX1) (N := 6) hx hb hts in_X1 hown hK hP 0 rfl rfl 4 (by decide) (hts _ q152) (fun _ h9 => h9) rfl dX1_times_89 ?_
              refine lv_iconst (v := nI 0) hx hb dX1_times_92 (by decide) ?_
              refine la_ (v := (ms_lp fz 4) 0) hx hb hK hP 1 rfl 0 rfl (by decide) (by decide) rfl dX1_times_93 ?_
              refine lv_iconst (v := nI 1) hx hb dX1_times_94 (by decide) ?_
              refine lv_lshl (v := wd_sl ((ms_lp fz 4) 0) 1) hx hb dX1_times_95 (sh_l _ _ (by decide)) ?_
              refine st_ hx hb hK hP hD hS 1 rfl 0 rfl (by decide) (by decide) dX1_times_96 (fun g_2 H locs hg_2 hP hD hS => ?_)
              obtain rfl : g_2 = ms_sh fz := hg_2
              have hP : va_P D wk_Cl [o1_ h0 qf qn qx qy qz qa, ar_ qz cA 5 (ms_sh fz), ar_ qp cA 5 fp] H := hP
              have hD : va_D A [o1_ h0 qf qn qx qy qz qa, ar_ qz cA 5 (ms_sh fz), ar_ qp cA 5 fp] := hD
              refine lv_aload_n hx hb dX1_times_97 rfl (lv_at hl 3 rfl) ?_
              refine va_get (D := D) (ci := 1) (v := .ref qz) (C := RX1) (T := TX1) (N := 6) hx hb hts in_X1 hown hK hP 0 rfl rfl 4 (by decide) (hts _ q152) (fun _ h9 => h9) rfl dX1_times_98 ?_
              refine cv_S (n := 1) (As := [.ref qz]) (rest := []) (wr := [o1_ h0 qf qn qx qy qz qa, ar_ qp cA 5 fp]) (w2 := fun u : (Nat → Int64) => [o1_ h0 qf qn qx qy qz qa, ar_ qz cA 5 u, ar_ qp cA 5 fp]) hx hb hml hown hts hK (m1_mask l D cA qz (ms_sh fz)) (lw_S q177 q178 q12 q179) (by decide +kernel) rfl ⟨rfl, rfl⟩ ⟨Nat.le_of_ble_eq_true rfl, Nat.le_of_ble_eq_true rfl⟩ ⟨Nat.zero_le _, Nat.zero_le _⟩ hP hD hS hA [1] [0, 2] [0, 2, 1] rfl rfl (by decide) (by decide) (by decide) (by decide) (fun _ => rfl) hl.1 rfl (Nat.le_of_ble_eq_true rfl) dX1_times_101 (fun z1 H locs hz1 hP hD hS => ?_)
              have hP : va_P D wk_Cl [o1_ h0 qf qn qx qy qz qa, ar_ qz cA 5 z1, ar_ qp cA 5 fp] H := hP
              have hD : va_D A [o1_ h0 qf qn qx qy qz qa, ar_ qz cA 5 z1, ar_ qp cA 5 fp] := hD
              refine lv_iload hx hb dX1_times_104 (lv_at hl 1 rfl) ?_
              subst hov
              refine lv_if_eq (tgt := 143) hx hb dX1_times_106 (by decide) (fun hc => ?_) (fun hc => ?_)
              · exact k143 z1 (hz1 ▸ ms_x_f hz (bt_f hc)) _ _ _ hP hD hS (lv_sub hl [2, 3, 4, 5] rfl)
              · refine lv_aload_n hx hb dX1_times_109 rfl (lv_at hl 3 rfl) ?_
                refine va_get (D := D) (ci := 1) (v := .ref qz) (C := RX1) (T := TX1) (N := 6) hx hb hts in_X1 hown hK hP 0 rfl rfl 4 (by decide) (hts _ q152) (fun _ h9 => h9) rfl dX1_times_110 ?_
                refine lv_bipush (v := nI 12) hx hb dX1_times_113 (by decide) ?_
                refine cv_S (n := 2) (As := [.ref qz, .int (nI 12)]) (rest := []) (wr := [o1_ h0 qf qn qx qy qz qa, ar_ qp cA 5 fp]) (w2 := fun u : (Nat → Int64) => [o1_ h0 qf qn qx qy qz qa, ar_ qz cA 5 u, ar_ qp cA 5 fp]) hx hb hml hown hts hK (m1_flip l D cA qz z1 12 (by decide)) (lw_S q202 q203 q12 q204) (by decide +kernel) rfl ⟨rfl, rfl⟩ ⟨Nat.le_of_ble_eq_true rfl, Nat.le_of_ble_eq_true rfl⟩ ⟨Nat.zero_le _, Nat.zero_le _⟩ hP hD hS hA [1] [0, 2] [0, 2, 1] rfl rfl (by decide) (by decide) (by decide) (by decide) (fun _ => rfl) hl.1 rfl (Nat.le_of_ble_eq_true rfl) dX1_times_115 (fun z2 H locs hz2 hP hD hS => ?_)
                have hP : va_P D wk_Cl [o1_ h0 qf qn qx qy qz qa, ar_ qz cA 5 z2, ar_ qp cA 5 fp] H := hP
                have hD : va_D A [o1_ h0 qf qn qx qy qz qa, ar_ qz cA 5 z2, ar_ qp cA 5 fp] := hD
                refine lv_aload_n hx hb dX1_times_118 rfl (lv_at hl 3 rfl) ?_
                refine va_get (D := D) (ci := 1) (v := .ref qz) (C := RX1) (T := TX1) (N := 6) hx hb hts in_X1 hown hK hP 0 rfl rfl 4 (by decide) (hts _ q152) (fun _ h9 => h9) rfl dX1_times_119 ?_
                refine lv_bipush (v := nI 7) hx hb dX1_times_122 (by decide) ?_
                refine cv_S (n := 2) (As := [.ref qz, .int (nI 7)]) (rest := []) (wr := [o1_ h0 qf qn qx qy qz qa, ar_ qp cA 5 fp]) (w2 := fun u : (Nat → Int64) => [o1_ h0 qf qn qx qy qz qa, ar_ qz cA 5 u, ar_ qp cA 5 fp]) hx hb hml hown hts hK (m1_flip l D cA qz z2 7 (by decide)) (lw_S q202 q203 q12 q204) (by decide +kernel) rfl ⟨rfl, rfl⟩ ⟨Nat.le_of_ble_eq_true rfl, Nat.le_of_ble_eq_true rfl⟩ ⟨Nat.zero_le _, Nat.zero_le _⟩ hP hD hS hA [1] [0, 2] [0, 2, 1] rfl rfl (by decide) (by decide) (by decide) (by decide) (fun _ => rfl) hl.1 rfl (Nat.le_of_ble_eq_true rfl) dX1_times_124 (fun z3 H locs hz3 hP hD hS => ?_)
                have hP : va_P D wk_Cl [o1_ h0 qf qn qx qy qz qa, ar_ qz cA 5 z3, ar_ qp cA 5 fp] H := hP
                have hD : va_D A [o1_ h0 qf qn qx qy qz qa, ar_ qz cA 5 z3, ar_ qp cA 5 fp] := hD
                refine lv_aload_n hx hb dX1_times_127 rfl (lv_at hl 3 rfl) ?_
                refine va_get (D := D) (ci := 1) (v := .ref qz) (C := RX1) (T := TX1) (N := 6) hx hb hts in_X1 hown hK hP 0 rfl rfl 4 (by decide) (hts _ q152) (fun _ h9 => h9) rfl dX1_times_128 ?_
                refine lv_iconst (v := nI 5) hx hb dX1_times_131 (by decide) ?_
                refine cv_S (n := 2) (As := [.ref qz, .int (nI 5)]) (rest := []) (wr := [o1_ h0 qf qn qx qy qz qa, ar_ qp cA 5 fp]) (w2 := fun u : (Nat → Int64) => [o1_ h0 qf qn qx qy qz qa, ar_ qz cA 5 u, ar_ qp cA 5 fp]) hx hb hml hown hts hK (m1_flip l D cA qz z3 5 (by decide)) (lw_S q202 q203 q12 q204) (by decide +kernel) rfl ⟨rfl, rfl⟩ ⟨Nat.le_of_ble_eq_true rfl, Nat.le_of_ble_eq_true rfl⟩ ⟨Nat.zero_le _, Nat.zero_le _⟩ hP hD hS hA [1] [0, 2] [0, 2, 1] rfl rfl (by decide) (by decide) (by decide) (by decide) (fun _ => rfl) hl.1 rfl (Nat.le_of_ble_eq_true rfl) dX1_times_132 (fun z4 H locs hz4 hP hD hS => ?_)
                have hP : va_P D wk_Cl [o1_ h0 qf qn qx qy qz qa, ar_ qz cA 5 z4, ar_ qp cA 5 fp] H := hP
                have hD : va_D A [o1_ h0 qf qn qx qy qz qa, ar_ qz cA 5 z4, ar_ qp cA 5 fp] := hD
                refine lv_aload_n hx hb dX1_times_135 rfl (lv_at hl 3 rfl) ?_
                refine va_get (D := D) (ci := 1) (v := .ref qz) (C := RX1) (T := TX1) (N := 6) hx hb hts in_X1 hown hK hP 0 rfl rfl 4 (by decide) (hts _ q152) (fun _ h9 => h9) rfl dX1_times_136 ?_
                refine lv_iconst (v := nI 0) hx hb dX1_times_139 (by decide) ?_
                refine cv_S (n := 2) (As := [.ref qz, .int (nI 0)]) (rest := []) (wr := [o1_ h0 qf qn qx qy qz qa, ar_ qp cA 5 fp]) (w2 := fun u : (Nat → Int64) => [o1_ h0 qf qn qx qy qz qa, ar_ qz cA 5 u, ar_ qp cA 5 fp]) hx hb hml hown hts hK (m1_flip l D cA qz z4 0 (by decide)) (lw_S q202 q203 q12 q204) (by decide +kernel) rfl ⟨rfl, rfl⟩ ⟨Nat.le_of_ble_eq_true rfl, Nat.le_of_ble_eq_true rfl⟩ ⟨Nat.zero_le _, Nat.zero_le _⟩ hP hD hS hA [1] [0, 2] [0, 2, 1] rfl rfl (by decide) (by decide) (by decide) (by decide) (fun _ => rfl) hl.1 rfl (Nat.le_of_ble_eq_true rfl) dX1_times_140 (fun z5 H locs hz5 hP hD hS => ?_)
                have hP : va_P D wk_Cl [o1_ h0 qf qn qx qy qz qa, ar_ qz cA 5 z5, ar_ qp cA 5 fp] H := hP
                have hD : va_D A [o1_ h0 qf qn qx qy qz qa, ar_ qz cA 5 z5, ar_ qp cA 5 fp] := hD
                subst hz1; subst hz2; subst hz3; subst hz4; subst hz5
                exact k143 _ (ms_x_t hz (bt_t hc)) _ _ _ hP hD hS (lv_sub hl [2, 3, 4, 5] rfl)
            | succ nt iht =>
              intro t ht H locs ls hP hD hS hl
              have h4 : t < 4 := by omega
              refine lv_iload hx hb dX1_times_43 (lv_at hl 0 rfl) ?_
              refine lv_if_le (tgt := 83) hx hb dX1_times_45 (by decide) (fun hc => absurd hc (tq t h4)) (fun _ => ?_)
              refine lv_aload_n hx hb dX1_times_48 rfl (lv_at hl 3 rfl) ?_
              refine va_get (D := D) (ci := 1) (v := .ref qz) (C := RX1) (T := TX1) (N := 6) hx hb hts in_X1 hown hK hP 0 rfl rfl 4 (by decide) (hts _ q152) (fun _ h9 => h9) rfl dX1_times_49 ?_
              refine lv_iload hx hb dX1_times_52 (lv_at hl 0 rfl) ?_
              refine lv_aload_n hx hb dX1_times_54 rfl (lv_at hl 3 rfl) ?_
              refine va_get (D := D) (ci := 1) (v := .ref qz) (C := RX1) (T := TX1) (N := 6) hx hb hts in_X1 hown hK hP 0 rfl rfl 4 (by decide) (hts _ q152) (fun _ h9 => h9) rfl dX1_times_55 ?_
              refine lv_iload hx hb dX1_times_58 (lv_at hl 0 rfl) ?_
              refine la_ (v := (ms_lp fz t) (4 - t)) hx hb hK hP 1 rfl (4 - t) rfl (by omega) (by decide) rfl dX1_times_60 ?_
              refine lv_iconst (v := nI 1) hx hb dX1_times_61 (by decide) ?_
              refine lv_lshl (v := wd_sl ((ms_lp fz t) (4 - t)) 1) hx hb dX1_times_62 (sh_l _ _ (by decide)) ?_
              refine lv_aload_n hx hb dX1_times_63 rfl (lv_at hl 3 rfl) ?_
              refine va_get (D := D) (ci := 1) (v := .ref qz) (C := RX1) (T := TX1) (N := 6) hx hb hts in_X1 hown hK hP 0 rfl rfl 4 (by decide) (hts _ q152) (fun _ h9 => h9) rfl dX1_times_64 ?_
              refine lv_iload hx hb dX1_times_67 (lv_at hl 0 rfl) ?_
              refine lv_iconst (v := nI 1) hx hb dX1_times_69 (by decide) ?_
              refine lv_isub hx hb dX1_times_70 ?_
              refine ti_ (nI ((4 - t) - 1)) (pk_sub (by omega)) ?_
              refine la_ (v := (ms_lp fz t) ((4 - t) - 1)) hx hb hK hP 1 rfl ((4 - t) - 1) rfl (by omega) (by decide) rfl dX1_times_71 ?_
              refine lv_bipush (v := nI 63) hx hb dX1_times_72 (by decide) ?_
              refine lv_lushr (v := wd_sr ((ms_lp fz t) ((4 - t) - 1)) 63) hx hb dX1_times_74 (sh_r _ _ (by decide)) ?_
              refine lv_lor hx hb dX1_times_75 ?_
              refine st_ hx hb hK hP hD hS 1 rfl (4 - t) rfl (by omega) (by decide) dX1_times_76 (fun g_3 H locs hg_3 hP hD hS => ?_)
              obtain rfl : g_3 = ms_lp fz (t + 1) := hg_3
              have hP : va_P D wk_Cl [o1_ h0 qf qn qx qy qz qa, ar_ qz cA 5 (ms_lp fz (t + 1)), ar_ qp cA 5 fp] H := hP
              have hD : va_D A [o1_ h0 qf qn qx qy qz qa, ar_ qz cA 5 (ms_lp fz (t + 1)), ar_ qp cA 5 fp] := hD
              refine lv_iinc (v := nI (4 - (t + 1))) (lv' := [(5, .int (nI (4 - (t + 1)))), (4, .int ov), (3, .int (nI n)), (0, .ref h0), (1, .ref qp), (2, .ref qp)]) hx hb dX1_times_77 hl (k := 0) rfl (ii_d (by omega)) (by decide) rfl (fun ls hl => ?_)
              refine lv_goto (tgt := 43) hx hb dX1_times_80 (by decide) ?_
              exact iht (t + 1) (by omega) _ _ _ hP hD hS (lv_sub hl [0, 1, 2, 3, 4, 5] rfl)
          exact l4 4 0 rfl _ _ _ hP hD hS (lv_sub hl [0, 1, 2, 3, 4, 5] rfl)
      exact l2 283 (f0_ fz (fun _ => 0) 5) 0#283 (Nat.le_refl _) (rp_congr rp_0 (fun k hk => f0_in fz (fun _ => 0) 5 k hk)) (mh_start vp vp) _ _ _ hP hD hS (lv_sub hl [0, 1, 2, 3] rfl)
    | succ n ih =>
      intro k hkk H locs ls hP hD hS hl
      have hk : k < 5 := by omega
      refine lv_iload_n hx hb dX1_times_2 rfl (lv_at hl 0 rfl) ?_
      refine lv_iconst (v := nI 5) hx hb dX1_times_3 (by decide) ?_
      refine lv_icmp_ge (tgt := 20) hx hb dX1_times_4 (by decide) (fun hc => absurd hc (lq k hk)) (fun _ => ?_)
      refine lv_aload_n hx hb dX1_times_7 rfl (lv_at hl 1 rfl) ?_
      refine va_get (D := D) (ci := 1) (v := .ref qz) (C := RX1) (T := TX1) (N := 6) hx hb hts in_X1 hown hK hP 0 rfl rfl 4 (by decide) (hts _ q152) (fun _ h9 => h9) rfl dX1_times_8 ?_
      refine lv_iload_n hx hb dX1_times_11 rfl (lv_at hl 0 rfl) ?_
      refine lv_lconst (v := 0) hx hb dX1_times_12 (by decide) ?_
      refine st_ hx hb hK hP hD hS 1 rfl k rfl (by omega) (by decide) dX1_times_13 (fun g_4 H locs hg_4 hP hD hS => ?_)
      obtain rfl : g_4 = f0_ fz (fun _ => 0) (k + 1) := hg_4
      have hP : va_P D wk_Cl [o1_ h0 qf qn qx qy qz qa, ar_ qz cA 5 (f0_ fz (fun _ => 0) (k + 1)), ar_ qp cA 5 fp] H := hP
      have hD : va_D A [o1_ h0 qf qn qx qy qz qa, ar_ qz cA 5 (f0_ fz (fun _ => 0) (k + 1)), ar_ qp cA 5 fp] := hD
      refine lv_iinc (v := nI (k + 1)) (lv' := [(3, .int (nI (k + 1))), (0, .ref h0), (1, .ref qp), (2, .ref qp)]) hx hb dX1_times_14 hl (k := 0) rfl (ii_1 _) (by decide) rfl (fun ls hl => ?_)
      refine lv_goto (tgt := 2) hx hb dX1_times_17 (by decide) ?_
      exact ih (k + 1) (by omega) _ _ _ hP hD hS (lv_sub hl [0, 1, 2, 3] rfl)
  exact lp 5 0 rfl _ _ _ hP hD hS (lv_sub hl [0, 1, 2, 3] rfl)
end
section
set_option maxHeartbeats 4000000 in
set_option maxRecDepth 100000 in
/-- line(at, p, q, r, s) -/
theorem m1_line (l : Launch) (D : va_G) (cA : ClassId) (h0 qf qn qx qy qz qa : Nat) (f1 f2 f3 f4 f5 f6 : Nat → Int64) (v : Nat → gf_V) (hv : rgs_ f1 v) (p0 p1 p2 p3 p4 : Int32) : MetV_ l yX1_line cX1_line 7 (rm_ 0 0) D cA [.ref h0, .int p0, .int p1, .int p2, .int p3, .int p4] [o1_ h0 qf qn qx qy qz qa, ar_ qf cA 20 f1, ar_ qn cA 5 f2, ar_ qx cA 5 f3, ar_ qy cA 5 f4, ar_ qz cA 5 f5, ar_ qa cA 5 f6] (fun u : (Nat → Int64) × (Nat → Int64) × (Nat → Int64) × (Nat → Int64) × (Nat → Int64) × (Nat → Int64) => rgs_ u.1 v ∧ u.2.1 = (ln_ f2 p0 p1 p2 p3 p4)) (fun u => [o1_ h0 qf qn qx qy qz qa, ar_ qf cA 20 u.1, ar_ qn cA 5 u.2.1, ar_ qx cA 5 u.2.2.1, ar_ qy cA 5 u.2.2.2.1, ar_ qz cA 5 u.2.2.2.2.1, ar_ qa cA 5 u.2.2.2.2.2]) := by
  refine metV_of (by decide) (Nat.le_of_ble_eq_true rfl) ?_
  intro p e s m below meth c A Q hx hb hml hown hts hK hA ret ls hP hD hl
  have hown : s.vm.findClass "Field283Model" = some m.cls := hown
  have hS : va_S A s.heap s.heap [] := va_S.rf
  have hl : lv_has ls 7 [(0, .ref h0), (1, .int p0), (2, .int p1), (3, .int p2), (4, .int p3), (5, .int p4)] := hl
  have hli := li_lt p0
  refine lv_iload_n hx hb dX1_line_0 rfl (lv_at hl 1 rfl) ?_
  refine lv_ldc (v := 2147483647) hx hb hown (hts _ q171) dX1_line_1 ?_
  refine lv_iand hx hb dX1_line_3 ?_
  refine ti_ (nI (p0.toBitVec.toNat % 2147483648)) (pk_and p0 31 (by decide +kernel)) ?_
  refine lv_iconst (v := nI 5) hx hb dX1_line_4 (by decide) ?_
  refine lv_irem hx hb dX1_line_5 (by decide) ?_
  refine ti_ (nI (li_ p0)) (pk_rem (Nat.mod_lt _ (by decide)) (by decide) (by decide)) ?_
  refine lv_istore (lv' := [(6, .int (nI (li_ p0))), (0, .ref h0), (1, .int p0), (2, .int p1), (3, .int p2), (4, .int p3), (5, .int p4)]) hx hb dX1_line_6 hl (by decide) rfl (fun ls hl => ?_)
  refine lv_aload_n hx hb dX1_line_8 rfl (lv_at hl 1 rfl) ?_
  refine va_get (D := D) (ci := 1) (v := .ref qn) (C := RX1) (T := TX1) (N := 6) hx hb hts in_X1 hown hK hP 0 rfl rfl 1 (by decide) (hts _ q149) (fun _ h9 => h9) rfl dX1_line_9 ?_
  refine lv_iload hx hb dX1_line_12 (lv_at hl 0 rfl) ?_
  refine lv_iload_n hx hb dX1_line_14 rfl (lv_at hl 3 rfl) ?_
  refine lv_i2l (v := p1.toInt64) hx hb dX1_line_15 rfl ?_
  refine lv_bipush (v := nI 32) hx hb dX1_line_16 (by decide) ?_
  refine lv_lshl (v := wd_sl p1.toInt64 32) hx hb dX1_line_18 (sh_l _ _ (by decide)) ?_
  refine lv_iload_n hx hb dX1_line_19 rfl (lv_at hl 4 rfl) ?_
  refine lv_i2l (v := p2.toInt64) hx hb dX1_line_20 rfl ?_
  refine lv_ldc2 (v := 4294967295) hx hb hown (hts _ q172) dX1_line_21 ?_
  refine lv_land hx hb dX1_line_24 ?_
  refine lv_lor hx hb dX1_line_25 ?_
  refine st_ hx hb hK hP hD hS 2 rfl (li_ p0) rfl (by omega) (by decide) dX1_line_26 (fun g1 H locs hg1 hP hD hS => ?_)
  have hP : va_P D wk_Cl [o1_ h0 qf qn qx qy qz qa, ar_ qf cA 20 f1, ar_ qn cA 5 g1, ar_ qx cA 5 f3, ar_ qy cA 5 f4, ar_ qz cA 5 f5, ar_ qa cA 5 f6] H := hP
  have hD : va_D A [o1_ h0 qf qn qx qy qz qa, ar_ qf cA 20 f1, ar_ qn cA 5 g1, ar_ qx cA 5 f3, ar_ qy cA 5 f4, ar_ qz cA 5 f5, ar_ qa cA 5 f6] := hD
  refine lv_aload_n hx hb dX1_line_27 rfl (lv_at hl 1 rfl) ?_
  refine va_get (D := D) (ci := 1) (v := .ref qn) (C := RX1) (T := TX1) (N := 6) hx hb hts in_X1 hown hK hP 0 rfl rfl 1 (by decide) (hts _ q149) (fun _ h9 => h9) rfl dX1_line_28 ?_
  refine lv_iload hx hb dX1_line_31 (lv_at hl 0 rfl) ?_
  refine lv_iconst (v := nI 1) hx hb dX1_line_33 (by decide) ?_
  refine lv_iadd hx hb dX1_line_34 ?_
  refine ti_ (nI (li_ p0 + 1)) (nI_add _ _) ?_
  refine lv_iconst (v := nI 5) hx hb dX1_line_35 (by decide) ?_
  refine lv_irem hx hb dX1_line_36 (by decide) ?_
  refine ti_ (nI ((li_ p0 + 1) % 5)) (pk_rem (by omega) (by decide) (by decide)) ?_
  refine lv_iload hx hb dX1_line_37 (lv_at hl 5 rfl) ?_
  refine lv_i2l (v := p3.toInt64) hx hb dX1_line_39 rfl ?_
  refine lv_bipush (v := nI 32) hx hb dX1_line_40 (by decide) ?_
  refine lv_lshl (v := wd_sl p3.toInt64 32) hx hb dX1_line_42 (sh_l _ _ (by decide)) ?_
  refine lv_iload hx hb dX1_line_43 (lv_at hl 6 rfl) ?_
  refine lv_i2l (v := p4.toInt64) hx hb dX1_line_45 rfl ?_
  refine lv_ldc2 (v := 4294967295) hx hb hown (hts _ q172) dX1_line_46 ?_
  refine lv_land hx hb dX1_line_49 ?_
  refine lv_lor hx hb dX1_line_50 ?_
  refine st_ hx hb hK hP hD hS 2 rfl ((li_ p0 + 1) % 5) rfl (by omega) (by decide) dX1_line_51 (fun g2 H locs hg2 hP hD hS => ?_)
  obtain rfl : g2 = ln_ f2 p0 p1 p2 p3 p4 := (by rw [hg2, hg1]; rfl)
  have hP : va_P D wk_Cl [o1_ h0 qf qn qx qy qz qa, ar_ qf cA 20 f1, ar_ qn cA 5 (ln_ f2 p0 p1 p2 p3 p4), ar_ qx cA 5 f3, ar_ qy cA 5 f4, ar_ qz cA 5 f5, ar_ qa cA 5 f6] H := hP
  have hD : va_D A [o1_ h0 qf qn qx qy qz qa, ar_ qf cA 20 f1, ar_ qn cA 5 (ln_ f2 p0 p1 p2 p3 p4), ar_ qx cA 5 f3, ar_ qy cA 5 f4, ar_ qz cA 5 f5, ar_ qa cA 5 f6] := hD
  exact ret (f1, ln_ f2 p0 p1 p2 p3 p4, f3, f4, f5, f6) _ _ _ _ dX1_line_52 ⟨hv, rfl⟩ hP hD hS
set_option maxHeartbeats 4000000 in
set_option maxRecDepth 100000 in
/-- load(r) -/
theorem m1_load (l : Launch) (D : va_G) (cA : ClassId) (h0 qf qn qx qy qz qa : Nat) (f1 f2 f3 f4 f5 f6 : Nat → Int64) (v : Nat → gf_V) (hv : rgs_ f1 v) (p0 : Int32) : MetV_ l yX1_load cX1_load 3 (rm_ 1 23) D cA [.ref h0, .int p0] [o1_ h0 qf qn qx qy qz qa, ar_ qf cA 20 f1, ar_ qn cA 5 f2, ar_ qx cA 5 f3, ar_ qy cA 5 f4, ar_ qz cA 5 f5, ar_ qa cA 5 f6] (fun u : (Nat → Int64) × (Nat → Int64) × (Nat → Int64) × (Nat → Int64) × (Nat → Int64) × (Nat → Int64) => rgs_ u.1 (up_ v (rg_ p0) (gl_ f2)) ∧ u.2.1 = f2) (fun u => [o1_ h0 qf qn qx qy qz qa, ar_ qf cA 20 u.1, ar_ qn cA 5 u.2.1, ar_ qx cA 5 u.2.2.1, ar_ qy cA 5 u.2.2.2.1, ar_ qz cA 5 u.2.2.2.2.1, ar_ qa cA 5 u.2.2.2.2.2]) := by
  refine metV_of (by decide) (Nat.le_of_ble_eq_true rfl) ?_
  intro p e s m below meth c A Q hx hb hml hown hts hK hA ret ls hP hD hl
  have hown : s.vm.findClass "Field283Model" = some m.cls := hown
  have hS : va_S A s.heap s.heap [] := va_S.rf
  have hl : lv_has ls 3 [(0, .ref h0), (1, .int p0)] := hl
  have lq : ∀ k, k < 5 → ¬ nI 5 ≤ nI k := by decide +kernel
  refine lv_iconst (v := nI 0) hx hb dX1_load_0 (by decide) ?_
  refine lv_istore_n (lv' := [(2, .int (nI 0)), (0, .ref h0), (1, .int p0)]) hx hb dX1_load_1 rfl hl (by decide) rfl (fun ls hl => ?_)
  have lp : ∀ (n k : Nat), k + n = 5 → ∀ (H : Heap) (locs : List Loc) (ls : Array Slot), va_P D wk_Cl [o1_ h0 qf qn qx qy qz qa, ar_ qf cA 20 f1, ar_ qn cA 5 f2, ar_ qx cA 5 (f0_ f3 f2 k), ar_ qy cA 5 f4, ar_ qz cA 5 f5, ar_ qa cA 5 f6] H → va_D A [o1_ h0 qf qn qx qy qz qa, ar_ qf cA 20 f1, ar_ qn cA 5 f2, ar_ qx cA 5 (f0_ f3 f2 k), ar_ qy cA 5 f4, ar_ qz cA 5 f5, ar_ qa cA 5 f6] → va_S A s.heap H locs → lv_has ls 3 [(2, .int (nI k)), (0, .ref h0), (1, .int p0)] → W p l e (rm_ 1 23) s m ([.ref h0, .int p0] : List Value).toArray below meth c H locs 0 0 Q (F0 m 2 ls []) := by
    intro n
    induction n with
    | zero =>
      intro k hkk H locs ls hP hD hS hl
      obtain rfl : k = 5 := by omega
      refine lv_iload_n hx hb dX1_load_2 rfl (lv_at hl 0 rfl) ?_
      refine lv_iconst (v := nI 5) hx hb dX1_load_3 (by decide) ?_
      refine lv_icmp_ge (tgt := 25) hx hb dX1_load_4 (by decide) (fun _ => ?_) (fun hc => absurd (by decide) hc)
      refine lv_aload_n hx hb dX1_load_25 rfl (lv_at hl 1 rfl) ?_
      refine va_get (D := D) (ci := 1) (v := .ref qx) (C := RX1) (T := TX1) (N := 6) hx hb hts in_X1 hown hK hP 0 rfl rfl 2 (by decide) (hts _ q150) (fun _ h9 => h9) rfl dX1_load_26 ?_
      refine cv_S (n := 1) (As := [.ref qx]) (rest := []) (wr := [o1_ h0 qf qn qx qy qz qa, ar_ qf cA 20 f1, ar_ qn cA 5 f2, ar_ qy cA 5 f4, ar_ qz cA 5 f5, ar_ qa cA 5 f6]) (w2 := fun u : (Nat → Int64) => [o1_ h0 qf qn qx qy qz qa, ar_ qf cA 20 f1, ar_ qn cA 5 f2, ar_ qx cA 5 u, ar_ qy cA 5 f4, ar_ qz cA 5 f5, ar_ qa cA 5 f6]) hx hb hml hown hts hK (m1_mask l D cA qx (f0_ f3 f2 5)) (lw_S q177 q178 q12 q179) (by decide +kernel) rfl ⟨rfl, rfl⟩ ⟨Nat.le_of_ble_eq_true rfl, Nat.le_of_ble_eq_true rfl⟩ ⟨Nat.zero_le _, Nat.zero_le _⟩ hP hD hS hA [3] [0, 1, 2, 4, 5, 6] [0, 1, 2, 6, 3, 4, 5] rfl rfl (by decide) (by decide) (by decide) (by decide) (fun _ => rfl) hl.1 rfl (Nat.le_of_ble_eq_true rfl) dX1_load_29 (fun x1 H locs hx1 hP hD hS => ?_)
      have hP : va_P D wk_Cl [o1_ h0 qf qn qx qy qz qa, ar_ qf cA 20 f1, ar_ qn cA 5 f2, ar_ qx cA 5 x1, ar_ qy cA 5 f4, ar_ qz cA 5 f5, ar_ qa cA 5 f6] H := hP
      have hD : va_D A [o1_ h0 qf qn qx qy qz qa, ar_ qf cA 20 f1, ar_ qn cA 5 f2, ar_ qx cA 5 x1, ar_ qy cA 5 f4, ar_ qz cA 5 f5, ar_ qa cA 5 f6] := hD
      refine lv_aload_n hx hb dX1_load_32 rfl (lv_at hl 1 rfl) ?_
      refine lv_iload_n hx hb dX1_load_33 rfl (lv_at hl 2 rfl) ?_
      refine lv_aload_n hx hb dX1_load_34 rfl (lv_at hl 1 rfl) ?_
      refine va_get (D := D) (ci := 1) (v := .ref qx) (C := RX1) (T := TX1) (N := 6) hx hb hts in_X1 hown hK hP 0 rfl rfl 2 (by decide) (hts _ q150) (fun _ h9 => h9) rfl dX1_load_35 ?_
      refine cv_V (ci := 1) (n := 2) (As := [.int p0, .ref qx]) (rest := []) (wr := [ar_ qn cA 5 f2, ar_ qy cA 5 f4, ar_ qz cA 5 f5, ar_ qa cA 5 f6]) (w2 := fun u : (Nat → Int64) => [o1_ h0 qf qn qx qy qz qa, ar_ qf cA 20 u, ar_ qn cA 5 f2, ar_ qx cA 5 x1, ar_ qy cA 5 f4, ar_ qz cA 5 f5, ar_ qa cA 5 f6]) hx hb hml hown hts hK (m1_give l D cA h0 qf qn qx qy qz qa qx f1 x1 p0) (lw_V q181 q183 qs6 q12 q184) (by decide +kernel) rfl ⟨rfl, rfl⟩ ⟨Nat.le_of_ble_eq_true rfl, Nat.le_of_ble_eq_true rfl⟩ ⟨Nat.zero_le _, Nat.zero_le _⟩ hP hD hS hA [0, 1, 3] [2, 4, 5, 6] [4, 5, 0, 6, 1, 2, 3] rfl rfl rfl rfl (by decide) (by decide) (by decide) (by decide) (fun _ => rfl) hl.1 rfl (Nat.le_of_ble_eq_true rfl) dX1_load_38 (fun r1 H locs hs hP hD hS => ?_)
      have hP : va_P D wk_Cl [o1_ h0 qf qn qx qy qz qa, ar_ qf cA 20 r1, ar_ qn cA 5 f2, ar_ qx cA 5 x1, ar_ qy cA 5 f4, ar_ qz cA 5 f5, ar_ qa cA 5 f6] H := hP
      have hD : va_D A [o1_ h0 qf qn qx qy qz qa, ar_ qf cA 20 r1, ar_ qn cA 5 f2, ar_ qx cA 5 x1, ar_ qy cA 5 f4, ar_ qz cA 5 f5, ar_ qa cA 5 f6] := hD
      exact ret (r1, f2, x1, f4, f5, f6) _ _ _ _ dX1_load_41 ⟨by rw [hs]; exact rgs_set hv (gl_rp (gl_f0 hx1)) _, rfl⟩ hP hD hS
    | succ n ih =>
      intro k hkk H locs ls hP hD hS hl
      have hk : k < 5 := by omega
      refine lv_iload_n hx hb dX1_load_2 rfl (lv_at hl 0 rfl) ?_
      refine lv_iconst (v := nI 5) hx hb dX1_load_3 (by decide) ?_
      refine lv_icmp_ge (tgt := 25) hx hb dX1_load_4 (by decide) (fun hc => absurd hc (lq k hk)) (fun _ => ?_)
      refine lv_aload_n hx hb dX1_load_7 rfl (lv_at hl 1 rfl) ?_
      refine va_get (D := D) (ci := 1) (v := .ref qx) (C := RX1) (T := TX1) (N := 6) hx hb hts in_X1 hown hK hP 0 rfl rfl 2 (by decide) (hts _ q150) (fun _ h9 => h9) rfl dX1_load_8 ?_
      refine lv_iload_n hx hb dX1_load_11 rfl (lv_at hl 0 rfl) ?_
      refine lv_aload_n hx hb dX1_load_12 rfl (lv_at hl 1 rfl) ?_
      refine va_get (D := D) (ci := 1) (v := .ref qn) (C := RX1) (T := TX1) (N := 6) hx hb hts in_X1 hown hK hP 0 rfl rfl 1 (by decide) (hts _ q149) (fun _ h9 => h9) rfl dX1_load_13 ?_
      refine lv_iload_n hx hb dX1_load_16 rfl (lv_at hl 0 rfl) ?_
      refine la_ (v := f2 k) hx hb hK hP 2 rfl k rfl (by omega) (by decide) rfl dX1_load_17 ?_
      refine st_ hx hb hK hP hD hS 3 rfl k rfl (by omega) (by decide) dX1_load_18 (fun g_1 H locs hg_1 hP hD hS => ?_)
      obtain rfl : g_1 = f0_ f3 f2 (k + 1) := hg_1
      have hP : va_P D wk_Cl [o1_ h0 qf qn qx qy qz qa, ar_ qf cA 20 f1, ar_ qn cA 5 f2, ar_ qx cA 5 (f0_ f3 f2 (k + 1)), ar_ qy cA 5 f4, ar_ qz cA 5 f5, ar_ qa cA 5 f6] H := hP
      have hD : va_D A [o1_ h0 qf qn qx qy qz qa, ar_ qf cA 20 f1, ar_ qn cA 5 f2, ar_ qx cA 5 (f0_ f3 f2 (k + 1)), ar_ qy cA 5 f4, ar_ qz cA 5 f5, ar_ qa cA 5 f6] := hD
      refine lv_iinc (v := nI (k + 1)) (lv' := [(2, .int (nI (k + 1))), (0, .ref h0), (1, .int p0)]) hx hb dX1_load_19 hl (k := 0) rfl (ii_1 _) (by decide) rfl (fun ls hl => ?_)
      refine lv_goto (tgt := 2) hx hb dX1_load_22 (by decide) ?_
      exact ih (k + 1) (by omega) _ _ _ hP hD hS (lv_sub hl [0, 1, 2] rfl)
  exact lp 5 0 rfl _ _ _ hP hD hS (lv_sub hl [0, 1, 2] rfl)
set_option maxHeartbeats 4000000 in
set_option maxRecDepth 100000 in
/-- word(r, at) -/
theorem m1_word (l : Launch) (D : va_G) (cA : ClassId) (h0 qf qn qx qy qz qa : Nat) (f1 f2 f3 f4 f5 f6 : Nat → Int64) (v : Nat → gf_V) (hv : rgs_ f1 v) (p0 p1 : Int32) : MetI_ l yX1_word cX1_word 5 .int (rm_ 0 0) D cA [.ref h0, .int p0, .int p1] [o1_ h0 qf qn qx qy qz qa, ar_ qf cA 20 f1, ar_ qn cA 5 f2, ar_ qx cA 5 f3, ar_ qy cA 5 f4, ar_ qz cA 5 f5, ar_ qa cA 5 f6] (fun (r : Int32) (_ : Unit) => r = wa_ (rp_w (v (rg_ p0)) (wi_ p1)) p1) (fun _ => [o1_ h0 qf qn qx qy qz qa, ar_ qf cA 20 f1, ar_ qn cA 5 f2, ar_ qx cA 5 f3, ar_ qy cA 5 f4, ar_ qz cA 5 f5, ar_ qa cA 5 f6]) := by
  refine metI_of (by decide) (Nat.le_of_ble_eq_true rfl) ?_
  intro p e s m below meth c A Q hx hb hml hown hts hK hA ret ls hP hD hl
  have hown : s.vm.findClass "Field283Model" = some m.cls := hown
  have hS : va_S A s.heap s.heap [] := va_S.rf
  have hl : lv_has ls 5 [(0, .ref h0), (1, .int p0), (2, .int p1)] := hl
  have hrg := rg_lt p0
  have hwi := wi_lt p1
  refine lv_aload_n hx hb dX1_word_0 rfl (lv_at hl 0 rfl) ?_
  refine va_get (D := D) (ci := 1) (v := .ref qf) (C := RX1) (T := TX1) (N := 6) hx hb hts in_X1 hown hK hP 0 rfl rfl 0 (by decide) (hts _ q148) (fun _ h9 => h9) rfl dX1_word_1 ?_
  refine lv_iload_n hx hb dX1_word_4 rfl (lv_at hl 1 rfl) ?_
  refine lv_iconst (v := nI 3) hx hb dX1_word_5 (by decide) ?_
  refine lv_iand hx hb dX1_word_6 ?_
  refine ti_ (nI (rg_ p0)) (rg_and _) ?_
  refine lv_iconst (v := nI 5) hx hb dX1_word_7 (by decide) ?_
  refine lv_imul hx hb dX1_word_8 ?_
  refine ti_ (nI ((rg_ p0) * 5)) (pk_mul _ _) ?_
  refine lv_iload_n hx hb dX1_word_9 rfl (lv_at hl 2 rfl) ?_
  refine lv_iconst (v := nI 1) hx hb dX1_word_10 (by decide) ?_
  refine lv_ishr hx hb dX1_word_11 ?_
  refine lv_ldc (v := 1073741823) hx hb hown (hts _ q189) dX1_word_12 ?_
  refine lv_iand hx hb dX1_word_14 ?_
  refine ti_ (nI ((p1 >>> (nI 1 &&& 31)).toBitVec.toNat % 1073741824)) (pk_and _ 30 (by decide +kernel)) ?_
  refine lv_iconst (v := nI 5) hx hb dX1_word_15 (by decide) ?_
  refine lv_irem hx hb dX1_word_16 (by decide) ?_
  refine ti_ (nI (wi_ p1)) (pk_rem (Nat.lt_trans (Nat.mod_lt _ (by decide)) (by decide)) (by decide) (by decide)) ?_
  refine lv_iadd hx hb dX1_word_17 ?_
  refine ti_ (nI ((rg_ p0) * 5 + (wi_ p1))) (nI_add _ _) ?_
  refine la_ (v := rp_w (v (rg_ p0)) (wi_ p1)) hx hb hK hP 1 rfl ((rg_ p0) * 5 + (wi_ p1)) rfl (by omega) (by decide) (rp_word (hv (rg_ p0) (rg_lt p0)) (wi_ p1) (wi_lt p1)) dX1_word_18 ?_
  refine lv_lstore_n (lv' := [(3, .long (rp_w (v (rg_ p0)) (wi_ p1))), (0, .ref h0), (1, .int p0), (2, .int p1)]) hx hb dX1_word_19 rfl hl (by decide) rfl (fun ls hl => ?_)
  refine lv_iload_n hx hb dX1_word_20 rfl (lv_at hl 3 rfl) ?_
  refine lv_iconst (v := nI 1) hx hb dX1_word_21 (by decide) ?_
  refine lv_iand hx hb dX1_word_22 ?_
  refine ti_ (nI (p1.toBitVec.toNat % 2)) (pk_and _ 1 (by decide +kernel)) ?_
  refine lv_if_ne (tgt := 30) hx hb dX1_word_23 (by decide) (fun hc => ?_) (fun hc => ?_)
  · refine lv_lload_n hx hb dX1_word_30 rfl (lv_at hl 0 rfl) ?_
    refine lv_bipush (v := nI 32) hx hb dX1_word_31 (by decide) ?_
    refine lv_lushr (v := wd_sr (rp_w (v (rg_ p0)) (wi_ p1)) 32) hx hb dX1_word_33 (sh_r _ _ (by decide)) ?_
    refine lv_l2i (v := (wd_sr (rp_w (v (rg_ p0)) (wi_ p1)) 32).toInt32) hx hb dX1_word_34 rfl ?_
    exact ret _ () _ _ _ _ dX1_word_35 (vp_nar_int _) (wa_1 hc) hP hD hS
  · refine lv_lload_n hx hb dX1_word_26 rfl (lv_at hl 0 rfl) ?_
    refine lv_goto (tgt := 34) hx hb dX1_word_27 (by decide) ?_
    refine lv_l2i (v := (rp_w (v (rg_ p0)) (wi_ p1)).toInt32) hx hb dX1_word_34 rfl ?_
    exact ret _ () _ _ _ _ dX1_word_35 (vp_nar_int _) (wa_0 hc) hP hD hS
set_option maxHeartbeats 4000000 in
set_option maxRecDepth 100000 in
/-- add(r, p, q) -/
theorem m1_add (l : Launch) (D : va_G) (cA : ClassId) (h0 qf qn qx qy qz qa : Nat) (f1 f2 f3 f4 f5 f6 : Nat → Int64) (v : Nat → gf_V) (hv : rgs_ f1 v) (p0 p1 p2 : Int32) : MetV_ l yX1_add cX1_add 5 (rm_ 1 23) D cA [.ref h0, .int p0, .int p1, .int p2] [o1_ h0 qf qn qx qy qz qa, ar_ qf cA 20 f1, ar_ qn cA 5 f2, ar_ qx cA 5 f3, ar_ qy cA 5 f4, ar_ qz cA 5 f5, ar_ qa cA 5 f6] (fun u : (Nat → Int64) × (Nat → Int64) × (Nat → Int64) × (Nat → Int64) × (Nat → Int64) × (Nat → Int64) => rgs_ u.1 (up_ v (rg_ p0) (v (rg_ p1) ^^^ v (rg_ p2))) ∧ u.2.1 = f2) (fun u => [o1_ h0 qf qn qx qy qz qa, ar_ qf cA 20 u.1, ar_ qn cA 5 u.2.1, ar_ qx cA 5 u.2.2.1, ar_ qy cA 5 u.2.2.2.1, ar_ qz cA 5 u.2.2.2.2.1, ar_ qa cA 5 u.2.2.2.2.2]) := by
  refine metV_of (by decide) (Nat.le_of_ble_eq_true rfl) ?_
  intro p e s m below meth c A Q hx hb hml hown hts hK hA ret ls hP hD hl
  have hown : s.vm.findClass "Field283Model" = some m.cls := hown
  have hS : va_S A s.heap s.heap [] := va_S.rf
  have hl : lv_has ls 5 [(0, .ref h0), (1, .int p0), (2, .int p1), (3, .int p2)] := hl
  have lq : ∀ k, k < 5 → ¬ nI 5 ≤ nI k := by decide +kernel
  refine lv_aload_n hx hb dX1_add_0 rfl (lv_at hl 0 rfl) ?_
  refine lv_aload_n hx hb dX1_add_1 rfl (lv_at hl 0 rfl) ?_
  refine va_get (D := D) (ci := 1) (v := .ref qx) (C := RX1) (T := TX1) (N := 6) hx hb hts in_X1 hown hK hP 0 rfl rfl 2 (by decide) (hts _ q150) (fun _ h9 => h9) rfl dX1_add_2 ?_
  refine lv_iload_n hx hb dX1_add_5 rfl (lv_at hl 2 rfl) ?_
  refine cv_V (ci := 1) (n := 2) (As := [.ref qx, .int p1]) (rest := []) (wr := [ar_ qn cA 5 f2, ar_ qy cA 5 f4, ar_ qz cA 5 f5, ar_ qa cA 5 f6]) (w2 := fun u : (Nat → Int64) => [o1_ h0 qf qn qx qy qz qa, ar_ qf cA 20 f1, ar_ qn cA 5 f2, ar_ qx cA 5 u, ar_ qy cA 5 f4, ar_ qz cA 5 f5, ar_ qa cA 5 f6]) hx hb hml hown hts hK (m1_take l D cA h0 qf qn qx qy qz qa qx f1 f3 p1) (lw_V q194 q196 qs7 q12 q197) (by decide +kernel) rfl ⟨rfl, rfl⟩ ⟨Nat.le_of_ble_eq_true rfl, Nat.le_of_ble_eq_true rfl⟩ ⟨Nat.zero_le _, Nat.zero_le _⟩ hP hD hS hA [0, 1, 3] [2, 4, 5, 6] [4, 5, 0, 6, 1, 2, 3] rfl rfl rfl rfl (by decide) (by decide) (by decide) (by decide) (fun _ => rfl) hl.1 rfl (Nat.le_of_ble_eq_true rfl) dX1_add_6 (fun x1 H locs h1 hP hD hS => ?_)
  have hP : va_P D wk_Cl [o1_ h0 qf qn qx qy qz qa, ar_ qf cA 20 f1, ar_ qn cA 5 f2, ar_ qx cA 5 x1, ar_ qy cA 5 f4, ar_ qz cA 5 f5, ar_ qa cA 5 f6] H := hP
  have hD : va_D A [o1_ h0 qf qn qx qy qz qa, ar_ qf cA 20 f1, ar_ qn cA 5 f2, ar_ qx cA 5 x1, ar_ qy cA 5 f4, ar_ qz cA 5 f5, ar_ qa cA 5 f6] := hD
  refine lv_aload_n hx hb dX1_add_9 rfl (lv_at hl 0 rfl) ?_
  refine lv_aload_n hx hb dX1_add_10 rfl (lv_at hl 0 rfl) ?_
  refine va_get (D := D) (ci := 1) (v := .ref qy) (C := RX1) (T := TX1) (N := 6) hx hb hts in_X1 hown hK hP 0 rfl rfl 3 (by decide) (hts _ q151) (fun _ h9 => h9) rfl dX1_add_11 ?_
  refine lv_iload_n hx hb dX1_add_14 rfl (lv_at hl 3 rfl) ?_
  refine cv_V (ci := 1) (n := 2) (As := [.ref qy, .int p2]) (rest := []) (wr := [ar_ qn cA 5 f2, ar_ qx cA 5 x1, ar_ qz cA 5 f5, ar_ qa cA 5 f6]) (w2 := fun u : (Nat → Int64) => [o1_ h0 qf qn qx qy qz qa, ar_ qf cA 20 f1, ar_ qn cA 5 f2, ar_ qx cA 5 x1, ar_ qy cA 5 u, ar_ qz cA 5 f5, ar_ qa cA 5 f6]) hx hb hml hown hts hK (m1_take l D cA h0 qf qn qx qy qz qa qy f1 f4 p2) (lw_V q194 q196 qs7 q12 q197) (by decide +kernel) rfl ⟨rfl, rfl⟩ ⟨Nat.le_of_ble_eq_true rfl, Nat.le_of_ble_eq_true rfl⟩ ⟨Nat.zero_le _, Nat.zero_le _⟩ hP hD hS hA [0, 1, 4] [2, 3, 5, 6] [4, 5, 0, 1, 6, 2, 3] rfl rfl rfl rfl (by decide) (by decide) (by decide) (by decide) (fun _ => rfl) hl.1 rfl (Nat.le_of_ble_eq_true rfl) dX1_add_15 (fun y1 H locs h2 hP hD hS => ?_)
  have hP : va_P D wk_Cl [o1_ h0 qf qn qx qy qz qa, ar_ qf cA 20 f1, ar_ qn cA 5 f2, ar_ qx cA 5 x1, ar_ qy cA 5 y1, ar_ qz cA 5 f5, ar_ qa cA 5 f6] H := hP
  have hD : va_D A [o1_ h0 qf qn qx qy qz qa, ar_ qf cA 20 f1, ar_ qn cA 5 f2, ar_ qx cA 5 x1, ar_ qy cA 5 y1, ar_ qz cA 5 f5, ar_ qa cA 5 f6] := hD
  refine lv_iconst (v := nI 0) hx hb dX1_add_18 (by decide) ?_
  refine lv_istore (lv' := [(4, .int (nI 0)), (0, .ref h0), (1, .int p0), (2, .int p1), (3, .int p2)]) hx hb dX1_add_19 hl (by decide) rfl (fun ls hl => ?_)
  have lp : ∀ (n k : Nat), k + n = 5 → ∀ (H : Heap) (locs : List Loc) (ls : Array Slot), va_P D wk_Cl [o1_ h0 qf qn qx qy qz qa, ar_ qf cA 20 f1, ar_ qn cA 5 f2, ar_ qx cA 5 (f0_ x1 (fun k => x1 k ^^^ y1 k) k), ar_ qy cA 5 y1, ar_ qz cA 5 f5, ar_ qa cA 5 f6] H → va_D A [o1_ h0 qf qn qx qy qz qa, ar_ qf cA 20 f1, ar_ qn cA 5 f2, ar_ qx cA 5 (f0_ x1 (fun k => x1 k ^^^ y1 k) k), ar_ qy cA 5 y1, ar_ qz cA 5 f5, ar_ qa cA 5 f6] → va_S A s.heap H locs → lv_has ls 5 [(4, .int (nI k)), (0, .ref h0), (1, .int p0), (2, .int p1), (3, .int p2)] → W p l e (rm_ 1 23) s m ([.ref h0, .int p0, .int p1, .int p2] : List Value).toArray below meth c H locs 0 0 Q (F0 m 21 ls []) := by
    intro n
    induction n with
    | zero =>
      intro k hkk H locs ls hP hD hS hl
      obtain rfl : k = 5 := by omega
      refine lv_iload hx hb dX1_add_21 (lv_at hl 0 rfl) ?_
      refine lv_iconst (v := nI 5) hx hb dX1_add_23 (by decide) ?_
      refine lv_icmp_ge (tgt := 55) hx hb dX1_add_24 (by decide) (fun _ => ?_) (fun hc => absurd (by decide) hc)
      refine lv_aload_n hx hb dX1_add_55 rfl (lv_at hl 1 rfl) ?_
      refine lv_iload_n hx hb dX1_add_56 rfl (lv_at hl 2 rfl) ?_
      refine lv_aload_n hx hb dX1_add_57 rfl (lv_at hl 1 rfl) ?_
      refine va_get (D := D) (ci := 1) (v := .ref qx) (C := RX1) (T := TX1) (N := 6) hx hb hts in_X1 hown hK hP 0 rfl rfl 2 (by decide) (hts _ q150) (fun _ h9 => h9) rfl dX1_add_58 ?_
      refine cv_V (ci := 1) (n := 2) (As := [.int p0, .ref qx]) (rest := []) (wr := [ar_ qn cA 5 f2, ar_ qy cA 5 y1, ar_ qz cA 5 f5, ar_ qa cA 5 f6]) (w2 := fun u : (Nat → Int64) => [o1_ h0 qf qn qx qy qz qa, ar_ qf cA 20 u, ar_ qn cA 5 f2, ar_ qx cA 5 (f0_ x1 (fun k => x1 k ^^^ y1 k) 5), ar_ qy cA 5 y1, ar_ qz cA 5 f5, ar_ qa cA 5 f6]) hx hb hml hown hts hK (m1_give l D cA h0 qf qn qx qy qz qa qx f1 (f0_ x1 (fun k => x1 k ^^^ y1 k) 5) p0) (lw_V q181 q183 qs6 q12 q184) (by decide +kernel) rfl ⟨rfl, rfl⟩ ⟨Nat.le_of_ble_eq_true rfl, Nat.le_of_ble_eq_true rfl⟩ ⟨Nat.zero_le _, Nat.zero_le _⟩ hP hD hS hA [0, 1, 3] [2, 4, 5, 6] [4, 5, 0, 6, 1, 2, 3] rfl rfl rfl rfl (by decide) (by decide) (by decide) (by decide) (fun _ => rfl) hl.1 rfl (Nat.le_of_ble_eq_true rfl) dX1_add_61 (fun r1 H locs hs hP hD hS => ?_)
      have hP : va_P D wk_Cl [o1_ h0 qf qn qx qy qz qa, ar_ qf cA 20 r1, ar_ qn cA 5 f2, ar_ qx cA 5 (f0_ x1 (fun k => x1 k ^^^ y1 k) 5), ar_ qy cA 5 y1, ar_ qz cA 5 f5, ar_ qa cA 5 f6] H := hP
      have hD : va_D A [o1_ h0 qf qn qx qy qz qa, ar_ qf cA 20 r1, ar_ qn cA 5 f2, ar_ qx cA 5 (f0_ x1 (fun k => x1 k ^^^ y1 k) 5), ar_ qy cA 5 y1, ar_ qz cA 5 f5, ar_ qa cA 5 f6] := hD
      exact ret (r1, f2, f0_ x1 (fun k => x1 k ^^^ y1 k) 5, y1, f5, f6) _ _ _ _ dX1_add_64 ⟨by rw [hs]; exact rgs_set hv (rp_congr (rp_xor (rgs_get hv p1 h1) (rgs_get hv p2 h2)) (fun k hk => f0_in x1 (fun k => x1 k ^^^ y1 k) 5 k hk)) _, rfl⟩ hP hD hS
    | succ n ih =>
      intro k hkk H locs ls hP hD hS hl
      have hk : k < 5 := by omega
      refine lv_iload hx hb dX1_add_21 (lv_at hl 0 rfl) ?_
      refine lv_iconst (v := nI 5) hx hb dX1_add_23 (by decide) ?_
      refine lv_icmp_ge (tgt := 55) hx hb dX1_add_24 (by decide) (fun hc => absurd hc (lq k hk)) (fun _ => ?_)
      refine lv_aload_n hx hb dX1_add_27 rfl (lv_at hl 1 rfl) ?_
      refine va_get (D := D) (ci := 1) (v := .ref qx) (C := RX1) (T := TX1) (N := 6) hx hb hts in_X1 hown hK hP 0 rfl rfl 2 (by decide) (hts _ q150) (fun _ h9 => h9) rfl dX1_add_28 ?_
      refine lv_iload hx hb dX1_add_31 (lv_at hl 0 rfl) ?_
      refine lv_aload_n hx hb dX1_add_33 rfl (lv_at hl 1 rfl) ?_
      refine va_get (D := D) (ci := 1) (v := .ref qx) (C := RX1) (T := TX1) (N := 6) hx hb hts in_X1 hown hK hP 0 rfl rfl 2 (by decide) (hts _ q150) (fun _ h9 => h9) rfl dX1_add_34 ?_
      refine lv_iload hx hb dX1_add_37 (lv_at hl 0 rfl) ?_
      refine la_ (v := x1 k) hx hb hK hP 3 rfl k rfl (by omega) (by decide) (f0_out x1 _ k k (Nat.le_refl k)) dX1_add_39 ?_
      refine lv_aload_n hx hb dX1_add_40 rfl (lv_at hl 1 rfl) ?_
      refine va_get (D := D) (ci := 1) (v := .ref qy) (C := RX1) (T := TX1) (N := 6) hx hb hts in_X1 hown hK hP 0 rfl rfl 3 (by decide) (hts _ q151) (fun _ h9 => h9) rfl dX1_add_41 ?_
      refine lv_iload hx hb dX1_add_44 (lv_at hl 0 rfl) ?_
      refine la_ (v := y1 k) hx hb hK hP 4 rfl k rfl (by omega) (by decide) rfl dX1_add_46 ?_
      refine lv_lxor hx hb dX1_add_47 ?_
      refine st_ hx hb hK hP hD hS 3 rfl k rfl (by omega) (by decide) dX1_add_48 (fun g_1 H locs hg_1 hP hD hS => ?_)
      obtain rfl : g_1 = f0_ x1 (fun k => x1 k ^^^ y1 k) (k + 1) := hg_1
      have hP : va_P D wk_Cl [o1_ h0 qf qn qx qy qz qa, ar_ qf cA 20 f1, ar_ qn cA 5 f2, ar_ qx cA 5 (f0_ x1 (fun k => x1 k ^^^ y1 k) (k + 1)), ar_ qy cA 5 y1, ar_ qz cA 5 f5, ar_ qa cA 5 f6] H := hP
      have hD : va_D A [o1_ h0 qf qn qx qy qz qa, ar_ qf cA 20 f1, ar_ qn cA 5 f2, ar_ qx cA 5 (f0_ x1 (fun k => x1 k ^^^ y1 k) (k + 1)), ar_ qy cA 5 y1, ar_ qz cA 5 f5, ar_ qa cA 5 f6] := hD
      refine lv_iinc (v := nI (k + 1)) (lv' := [(4, .int (nI (k + 1))), (0, .ref h0), (1, .int p0), (2, .int p1), (3, .int p2)]) hx hb dX1_add_49 hl (k := 0) rfl (ii_1 _) (by decide) rfl (fun ls hl => ?_)
      refine lv_goto (tgt := 21) hx hb dX1_add_52 (by decide) ?_
      exact ih (k + 1) (by omega) _ _ _ hP hD hS (lv_sub hl [0, 1, 2, 3, 4] rfl)
  exact lp 5 0 rfl _ _ _ hP hD hS (lv_sub hl [0, 1, 2, 3, 4] rfl)
set_option maxHeartbeats 4000000 in
set_option maxRecDepth 100000 in
/-- addOne(r, p) -/
theorem m1_addOne (l : Launch) (D : va_G) (cA : ClassId) (h0 qf qn qx qy qz qa : Nat) (f1 f2 f3 f4 f5 f6 : Nat → Int64) (v : Nat → gf_V) (hv : rgs_ f1 v) (p0 p1 : Int32) : MetV_ l yX1_addOne cX1_addOne 3 (rm_ 1 23) D cA [.ref h0, .int p0, .int p1] [o1_ h0 qf qn qx qy qz qa, ar_ qf cA 20 f1, ar_ qn cA 5 f2, ar_ qx cA 5 f3, ar_ qy cA 5 f4, ar_ qz cA 5 f5, ar_ qa cA 5 f6] (fun u : (Nat → Int64) × (Nat → Int64) × (Nat → Int64) × (Nat → Int64) × (Nat → Int64) × (Nat → Int64) => rgs_ u.1 (up_ v (rg_ p0) (v (rg_ p1) ^^^ 1#283)) ∧ u.2.1 = f2) (fun u => [o1_ h0 qf qn qx qy qz qa, ar_ qf cA 20 u.1, ar_ qn cA 5 u.2.1, ar_ qx cA 5 u.2.2.1, ar_ qy cA 5 u.2.2.2.1, ar_ qz cA 5 u.2.2.2.2.1, ar_ qa cA 5 u.2.2.2.2.2]) := by
  refine metV_of (by decide) (Nat.le_of_ble_eq_true rfl) ?_
  intro p e s m below meth c A Q hx hb hml hown hts hK hA ret ls hP hD hl
  have hown : s.vm.findClass "Field283Model" = some m.cls := hown
  have hS : va_S A s.heap s.heap [] := va_S.rf
  have hl : lv_has ls 3 [(0, .ref h0), (1, .int p0), (2, .int p1)] := hl
  refine lv_aload_n hx hb dX1_addOne_0 rfl (lv_at hl 0 rfl) ?_
  refine lv_aload_n hx hb dX1_addOne_1 rfl (lv_at hl 0 rfl) ?_
  refine va_get (D := D) (ci := 1) (v := .ref qx) (C := RX1) (T := TX1) (N := 6) hx hb hts in_X1 hown hK hP 0 rfl rfl 2 (by decide) (hts _ q150) (fun _ h9 => h9) rfl dX1_addOne_2 ?_
  refine lv_iload_n hx hb dX1_addOne_5 rfl (lv_at hl 2 rfl) ?_
  refine cv_V (ci := 1) (n := 2) (As := [.ref qx, .int p1]) (rest := []) (wr := [ar_ qn cA 5 f2, ar_ qy cA 5 f4, ar_ qz cA 5 f5, ar_ qa cA 5 f6]) (w2 := fun u : (Nat → Int64) => [o1_ h0 qf qn qx qy qz qa, ar_ qf cA 20 f1, ar_ qn cA 5 f2, ar_ qx cA 5 u, ar_ qy cA 5 f4, ar_ qz cA 5 f5, ar_ qa cA 5 f6]) hx hb hml hown hts hK (m1_take l D cA h0 qf qn qx qy qz qa qx f1 f3 p1) (lw_V q194 q196 qs7 q12 q197) (by decide +kernel) rfl ⟨rfl, rfl⟩ ⟨Nat.le_of_ble_eq_true rfl, Nat.le_of_ble_eq_true rfl⟩ ⟨Nat.zero_le _, Nat.zero_le _⟩ hP hD hS hA [0, 1, 3] [2, 4, 5, 6] [4, 5, 0, 6, 1, 2, 3] rfl rfl rfl rfl (by decide) (by decide) (by decide) (by decide) (fun _ => rfl) hl.1 rfl (Nat.le_of_ble_eq_true rfl) dX1_addOne_6 (fun x1 H locs h1 hP hD hS => ?_)
  have hP : va_P D wk_Cl [o1_ h0 qf qn qx qy qz qa, ar_ qf cA 20 f1, ar_ qn cA 5 f2, ar_ qx cA 5 x1, ar_ qy cA 5 f4, ar_ qz cA 5 f5, ar_ qa cA 5 f6] H := hP
  have hD : va_D A [o1_ h0 qf qn qx qy qz qa, ar_ qf cA 20 f1, ar_ qn cA 5 f2, ar_ qx cA 5 x1, ar_ qy cA 5 f4, ar_ qz cA 5 f5, ar_ qa cA 5 f6] := hD
  refine lv_aload_n hx hb dX1_addOne_9 rfl (lv_at hl 0 rfl) ?_
  refine va_get (D := D) (ci := 1) (v := .ref qx) (C := RX1) (T := TX1) (N := 6) hx hb hts in_X1 hown hK hP 0 rfl rfl 2 (by decide) (hts _ q150) (fun _ h9 => h9) rfl dX1_addOne_10 ?_
  refine lv_iconst (v := nI 0) hx hb dX1_addOne_13 (by decide) ?_
  refine cv_S (n := 2) (As := [.ref qx, .int (nI 0)]) (rest := []) (wr := [o1_ h0 qf qn qx qy qz qa, ar_ qf cA 20 f1, ar_ qn cA 5 f2, ar_ qy cA 5 f4, ar_ qz cA 5 f5, ar_ qa cA 5 f6]) (w2 := fun u : (Nat → Int64) => [o1_ h0 qf qn qx qy qz qa, ar_ qf cA 20 f1, ar_ qn cA 5 f2, ar_ qx cA 5 u, ar_ qy cA 5 f4, ar_ qz cA 5 f5, ar_ qa cA 5 f6]) hx hb hml hown hts hK (m1_flip l D cA qx x1 0 (by decide)) (lw_S q202 q203 q12 q204) (by decide +kernel) rfl ⟨rfl, rfl⟩ ⟨Nat.le_of_ble_eq_true rfl, Nat.le_of_ble_eq_true rfl⟩ ⟨Nat.zero_le _, Nat.zero_le _⟩ hP hD hS hA [3] [0, 1, 2, 4, 5, 6] [0, 1, 2, 6, 3, 4, 5] rfl rfl (by decide) (by decide) (by decide) (by decide) (fun _ => rfl) hl.1 rfl (Nat.le_of_ble_eq_true rfl) dX1_addOne_14 (fun x2 H locs h2 hP hD hS => ?_)
  have hP : va_P D wk_Cl [o1_ h0 qf qn qx qy qz qa, ar_ qf cA 20 f1, ar_ qn cA 5 f2, ar_ qx cA 5 x2, ar_ qy cA 5 f4, ar_ qz cA 5 f5, ar_ qa cA 5 f6] H := hP
  have hD : va_D A [o1_ h0 qf qn qx qy qz qa, ar_ qf cA 20 f1, ar_ qn cA 5 f2, ar_ qx cA 5 x2, ar_ qy cA 5 f4, ar_ qz cA 5 f5, ar_ qa cA 5 f6] := hD
  refine lv_aload_n hx hb dX1_addOne_17 rfl (lv_at hl 0 rfl) ?_
  refine lv_iload_n hx hb dX1_addOne_18 rfl (lv_at hl 1 rfl) ?_
  refine lv_aload_n hx hb dX1_addOne_19 rfl (lv_at hl 0 rfl) ?_
  refine va_get (D := D) (ci := 1) (v := .ref qx) (C := RX1) (T := TX1) (N := 6) hx hb hts in_X1 hown hK hP 0 rfl rfl 2 (by decide) (hts _ q150) (fun _ h9 => h9) rfl dX1_addOne_20 ?_
  refine cv_V (ci := 1) (n := 2) (As := [.int p0, .ref qx]) (rest := []) (wr := [ar_ qn cA 5 f2, ar_ qy cA 5 f4, ar_ qz cA 5 f5, ar_ qa cA 5 f6]) (w2 := fun u : (Nat → Int64) => [o1_ h0 qf qn qx qy qz qa, ar_ qf cA 20 u, ar_ qn cA 5 f2, ar_ qx cA 5 x2, ar_ qy cA 5 f4, ar_ qz cA 5 f5, ar_ qa cA 5 f6]) hx hb hml hown hts hK (m1_give l D cA h0 qf qn qx qy qz qa qx f1 x2 p0) (lw_V q181 q183 qs6 q12 q184) (by decide +kernel) rfl ⟨rfl, rfl⟩ ⟨Nat.le_of_ble_eq_true rfl, Nat.le_of_ble_eq_true rfl⟩ ⟨Nat.zero_le _, Nat.zero_le _⟩ hP hD hS hA [0, 1, 3] [2, 4, 5, 6] [4, 5, 0, 6, 1, 2, 3] rfl rfl rfl rfl (by decide) (by decide) (by decide) (by decide) (fun _ => rfl) hl.1 rfl (Nat.le_of_ble_eq_true rfl) dX1_addOne_23 (fun r1 H locs hs hP hD hS => ?_)
  have hP : va_P D wk_Cl [o1_ h0 qf qn qx qy qz qa, ar_ qf cA 20 r1, ar_ qn cA 5 f2, ar_ qx cA 5 x2, ar_ qy cA 5 f4, ar_ qz cA 5 f5, ar_ qa cA 5 f6] H := hP
  have hD : va_D A [o1_ h0 qf qn qx qy qz qa, ar_ qf cA 20 r1, ar_ qn cA 5 f2, ar_ qx cA 5 x2, ar_ qy cA 5 f4, ar_ qz cA 5 f5, ar_ qa cA 5 f6] := hD
  exact ret (r1, f2, x2, f4, f5, f6) _ _ _ _ dX1_addOne_26 ⟨by rw [hs]; exact rgs_set hv (h2 ▸ rp_one (rgs_get hv p1 h1)) _, rfl⟩ hP hD hS
set_option maxHeartbeats 4000000 in
set_option maxRecDepth 100000 in
/-- multiply(r, p, q) -/
theorem m1_multiply (l : Launch) (D : va_G) (cA : ClassId) (h0 qf qn qx qy qz qa : Nat) (f1 f2 f3 f4 f5 f6 : Nat → Int64) (v : Nat → gf_V) (hv : rgs_ f1 v) (p0 p1 p2 : Int32) : MetV_ l yX1_multiply cX1_multiply 4 (rm_ 2 46) D cA [.ref h0, .int p0, .int p1, .int p2] [o1_ h0 qf qn qx qy qz qa, ar_ qf cA 20 f1, ar_ qn cA 5 f2, ar_ qx cA 5 f3, ar_ qy cA 5 f4, ar_ qz cA 5 f5, ar_ qa cA 5 f6] (fun u : (Nat → Int64) × (Nat → Int64) × (Nat → Int64) × (Nat → Int64) × (Nat → Int64) × (Nat → Int64) => rgs_ u.1 (up_ v (rg_ p0) (gf_mul (v (rg_ p1)) (v (rg_ p2)))) ∧ u.2.1 = f2) (fun u => [o1_ h0 qf qn qx qy qz qa, ar_ qf cA 20 u.1, ar_ qn cA 5 u.2.1, ar_ qx cA 5 u.2.2.1, ar_ qy cA 5 u.2.2.2.1, ar_ qz cA 5 u.2.2.2.2.1, ar_ qa cA 5 u.2.2.2.2.2]) := by
  refine metV_of (by decide) (Nat.le_of_ble_eq_true rfl) ?_
  intro p e s m below meth c A Q hx hb hml hown hts hK hA ret ls hP hD hl
  have hown : s.vm.findClass "Field283Model" = some m.cls := hown
  have hS : va_S A s.heap s.heap [] := va_S.rf
  have hl : lv_has ls 4 [(0, .ref h0), (1, .int p0), (2, .int p1), (3, .int p2)] := hl
  refine lv_aload_n hx hb dX1_multiply_0 rfl (lv_at hl 0 rfl) ?_
  refine lv_aload_n hx hb dX1_multiply_1 rfl (lv_at hl 0 rfl) ?_
  refine va_get (D := D) (ci := 1) (v := .ref qx) (C := RX1) (T := TX1) (N := 6) hx hb hts in_X1 hown hK hP 0 rfl rfl 2 (by decide) (hts _ q150) (fun _ h9 => h9) rfl dX1_multiply_2 ?_
  refine lv_iload_n hx hb dX1_multiply_5 rfl (lv_at hl 2 rfl) ?_
  refine cv_V (ci := 1) (n := 2) (As := [.ref qx, .int p1]) (rest := []) (wr := [ar_ qn cA 5 f2, ar_ qy cA 5 f4, ar_ qz cA 5 f5, ar_ qa cA 5 f6]) (w2 := fun u : (Nat → Int64) => [o1_ h0 qf qn qx qy qz qa, ar_ qf cA 20 f1, ar_ qn cA 5 f2, ar_ qx cA 5 u, ar_ qy cA 5 f4, ar_ qz cA 5 f5, ar_ qa cA 5 f6]) hx hb hml hown hts hK (m1_take l D cA h0 qf qn qx qy qz qa qx f1 f3 p1) (lw_V q194 q196 qs7 q12 q197) (by decide +kernel) rfl ⟨rfl, rfl⟩ ⟨Nat.le_of_ble_eq_true rfl, Nat.le_of_ble_eq_true rfl⟩ ⟨Nat.zero_le _, Nat.zero_le _⟩ hP hD hS hA [0, 1, 3] [2, 4, 5, 6] [4, 5, 0, 6, 1, 2, 3] rfl rfl rfl rfl (by decide) (by decide) (by decide) (by decide) (fun _ => rfl) hl.1 rfl (Nat.le_of_ble_eq_true rfl) dX1_multiply_6 (fun x1 H locs h1 hP hD hS => ?_)
  have hP : va_P D wk_Cl [o1_ h0 qf qn qx qy qz qa, ar_ qf cA 20 f1, ar_ qn cA 5 f2, ar_ qx cA 5 x1, ar_ qy cA 5 f4, ar_ qz cA 5 f5, ar_ qa cA 5 f6] H := hP
  have hD : va_D A [o1_ h0 qf qn qx qy qz qa, ar_ qf cA 20 f1, ar_ qn cA 5 f2, ar_ qx cA 5 x1, ar_ qy cA 5 f4, ar_ qz cA 5 f5, ar_ qa cA 5 f6] := hD
  refine lv_aload_n hx hb dX1_multiply_9 rfl (lv_at hl 0 rfl) ?_
  refine lv_aload_n hx hb dX1_multiply_10 rfl (lv_at hl 0 rfl) ?_
  refine va_get (D := D) (ci := 1) (v := .ref qy) (C := RX1) (T := TX1) (N := 6) hx hb hts in_X1 hown hK hP 0 rfl rfl 3 (by decide) (hts _ q151) (fun _ h9 => h9) rfl dX1_multiply_11 ?_
  refine lv_iload_n hx hb dX1_multiply_14 rfl (lv_at hl 3 rfl) ?_
  refine cv_V (ci := 1) (n := 2) (As := [.ref qy, .int p2]) (rest := []) (wr := [ar_ qn cA 5 f2, ar_ qx cA 5 x1, ar_ qz cA 5 f5, ar_ qa cA 5 f6]) (w2 := fun u : (Nat → Int64) => [o1_ h0 qf qn qx qy qz qa, ar_ qf cA 20 f1, ar_ qn cA 5 f2, ar_ qx cA 5 x1, ar_ qy cA 5 u, ar_ qz cA 5 f5, ar_ qa cA 5 f6]) hx hb hml hown hts hK (m1_take l D cA h0 qf qn qx qy qz qa qy f1 f4 p2) (lw_V q194 q196 qs7 q12 q197) (by decide +kernel) rfl ⟨rfl, rfl⟩ ⟨Nat.le_of_ble_eq_true rfl, Nat.le_of_ble_eq_true rfl⟩ ⟨Nat.zero_le _, Nat.zero_le _⟩ hP hD hS hA [0, 1, 4] [2, 3, 5, 6] [4, 5, 0, 1, 6, 2, 3] rfl rfl rfl rfl (by decide) (by decide) (by decide) (by decide) (fun _ => rfl) hl.1 rfl (Nat.le_of_ble_eq_true rfl) dX1_multiply_15 (fun y1 H locs h2 hP hD hS => ?_)
  have hP : va_P D wk_Cl [o1_ h0 qf qn qx qy qz qa, ar_ qf cA 20 f1, ar_ qn cA 5 f2, ar_ qx cA 5 x1, ar_ qy cA 5 y1, ar_ qz cA 5 f5, ar_ qa cA 5 f6] H := hP
  have hD : va_D A [o1_ h0 qf qn qx qy qz qa, ar_ qf cA 20 f1, ar_ qn cA 5 f2, ar_ qx cA 5 x1, ar_ qy cA 5 y1, ar_ qz cA 5 f5, ar_ qa cA 5 f6] := hD
  refine lv_aload_n hx hb dX1_multiply_18 rfl (lv_at hl 0 rfl) ?_
  refine lv_aload_n hx hb dX1_multiply_19 rfl (lv_at hl 0 rfl) ?_
  refine va_get (D := D) (ci := 1) (v := .ref qx) (C := RX1) (T := TX1) (N := 6) hx hb hts in_X1 hown hK hP 0 rfl rfl 2 (by decide) (hts _ q150) (fun _ h9 => h9) rfl dX1_multiply_20 ?_
  refine lv_aload_n hx hb dX1_multiply_23 rfl (lv_at hl 0 rfl) ?_
  refine va_get (D := D) (ci := 1) (v := .ref qy) (C := RX1) (T := TX1) (N := 6) hx hb hts in_X1 hown hK hP 0 rfl rfl 3 (by decide) (hts _ q151) (fun _ h9 => h9) rfl dX1_multiply_24 ?_
  refine cv_V (ci := 1) (n := 2) (As := [.ref qx, .ref qy]) (rest := []) (wr := [ar_ qf cA 20 f1, ar_ qn cA 5 f2, ar_ qa cA 5 f6]) (w2 := fun u : (Nat → Int64) => [o1_ h0 qf qn qx qy qz qa, ar_ qf cA 20 f1, ar_ qn cA 5 f2, ar_ qx cA 5 x1, ar_ qy cA 5 y1, ar_ qz cA 5 u, ar_ qa cA 5 f6]) hx hb hml hown hts hK (m1_times l D cA h0 qf qn qx qy qz qa qx qy f5 x1 y1 _ _ (rgs_get hv p1 h1) (rgs_get hv p2 h2)) (lw_V q209 q211 qs8 q12 q212) (by decide +kernel) rfl ⟨rfl, rfl⟩ ⟨Nat.le_of_ble_eq_true rfl, Nat.le_of_ble_eq_true rfl⟩ ⟨Nat.zero_le _, Nat.zero_le _⟩ hP hD hS hA [0, 5, 3, 4] [1, 2, 6] [3, 0, 1, 5, 6, 4, 2] rfl rfl rfl rfl (by decide) (by decide) (by decide) (by decide) (fun _ => rfl) hl.1 rfl (Nat.le_of_ble_eq_true rfl) dX1_multiply_27 (fun z1 H locs h3 hP hD hS => ?_)
  have hP : va_P D wk_Cl [o1_ h0 qf qn qx qy qz qa, ar_ qf cA 20 f1, ar_ qn cA 5 f2, ar_ qx cA 5 x1, ar_ qy cA 5 y1, ar_ qz cA 5 z1, ar_ qa cA 5 f6] H := hP
  have hD : va_D A [o1_ h0 qf qn qx qy qz qa, ar_ qf cA 20 f1, ar_ qn cA 5 f2, ar_ qx cA 5 x1, ar_ qy cA 5 y1, ar_ qz cA 5 z1, ar_ qa cA 5 f6] := hD
  refine lv_aload_n hx hb dX1_multiply_30 rfl (lv_at hl 0 rfl) ?_
  refine lv_iload_n hx hb dX1_multiply_31 rfl (lv_at hl 1 rfl) ?_
  refine lv_aload_n hx hb dX1_multiply_32 rfl (lv_at hl 0 rfl) ?_
  refine va_get (D := D) (ci := 1) (v := .ref qz) (C := RX1) (T := TX1) (N := 6) hx hb hts in_X1 hown hK hP 0 rfl rfl 4 (by decide) (hts _ q152) (fun _ h9 => h9) rfl dX1_multiply_33 ?_
  refine cv_V (ci := 1) (n := 2) (As := [.int p0, .ref qz]) (rest := []) (wr := [ar_ qn cA 5 f2, ar_ qx cA 5 x1, ar_ qy cA 5 y1, ar_ qa cA 5 f6]) (w2 := fun u : (Nat → Int64) => [o1_ h0 qf qn qx qy qz qa, ar_ qf cA 20 u, ar_ qn cA 5 f2, ar_ qx cA 5 x1, ar_ qy cA 5 y1, ar_ qz cA 5 z1, ar_ qa cA 5 f6]) hx hb hml hown hts hK (m1_give l D cA h0 qf qn qx qy qz qa qz f1 z1 p0) (lw_V q181 q183 qs6 q12 q184) (by decide +kernel) rfl ⟨rfl, rfl⟩ ⟨Nat.le_of_ble_eq_true rfl, Nat.le_of_ble_eq_true rfl⟩ ⟨Nat.zero_le _, Nat.zero_le _⟩ hP hD hS hA [0, 1, 5] [2, 3, 4, 6] [4, 5, 0, 1, 2, 6, 3] rfl rfl rfl rfl (by decide) (by decide) (by decide) (by decide) (fun _ => rfl) hl.1 rfl (Nat.le_of_ble_eq_true rfl) dX1_multiply_36 (fun r1 H locs hs hP hD hS => ?_)
  have hP : va_P D wk_Cl [o1_ h0 qf qn qx qy qz qa, ar_ qf cA 20 r1, ar_ qn cA 5 f2, ar_ qx cA 5 x1, ar_ qy cA 5 y1, ar_ qz cA 5 z1, ar_ qa cA 5 f6] H := hP
  have hD : va_D A [o1_ h0 qf qn qx qy qz qa, ar_ qf cA 20 r1, ar_ qn cA 5 f2, ar_ qx cA 5 x1, ar_ qy cA 5 y1, ar_ qz cA 5 z1, ar_ qa cA 5 f6] := hD
  exact ret (r1, f2, x1, y1, z1, f6) _ _ _ _ dX1_multiply_39 ⟨by rw [hs]; exact rgs_set hv h3 _, rfl⟩ hP hD hS
end
section
set_option maxHeartbeats 4000000 in
set_option maxRecDepth 100000 in
/-- squares(r, p, n) -/
theorem m1_squares (l : Launch) (D : va_G) (cA : ClassId) (h0 qf qn qx qy qz qa : Nat) (f1 f2 f3 f4 f5 f6 : Nat → Int64) (v : Nat → gf_V) (hv : rgs_ f1 v) (p0 p1 p2 : Int32) : MetV_ l yX1_squares cX1_squares 5 (rm_ 2 46) D cA [.ref h0, .int p0, .int p1, .int p2] [o1_ h0 qf qn qx qy qz qa, ar_ qf cA 20 f1, ar_ qn cA 5 f2, ar_ qx cA 5 f3, ar_ qy cA 5 f4, ar_ qz cA 5 f5, ar_ qa cA 5 f6] (fun u : (Nat → Int64) × (Nat → Int64) × (Nat → Int64) × (Nat → Int64) × (Nat → Int64) × (Nat → Int64) => rgs_ u.1 (up_ v (rg_ p0) (gf_sqn (p2.toBitVec.toNat % 16 + 1) (v (rg_ p1)))) ∧ u.2.1 = f2) (fun u => [o1_ h0 qf qn qx qy qz qa, ar_ qf cA 20 u.1, ar_ qn cA 5 u.2.1, ar_ qx cA 5 u.2.2.1, ar_ qy cA 5 u.2.2.2.1, ar_ qz cA 5 u.2.2.2.2.1, ar_ qa cA 5 u.2.2.2.2.2]) := by
  refine metV_of (by decide) (Nat.le_of_ble_eq_true rfl) ?_
  intro p e s m below meth c A Q hx hb hml hown hts hK hA ret ls hP hD hl
  have hown : s.vm.findClass "Field283Model" = some m.cls := hown
  have hS : va_S A s.heap s.heap [] := va_S.rf
  have hl : lv_has ls 5 [(0, .ref h0), (1, .int p0), (2, .int p1), (3, .int p2)] := hl
  refine lv_aload_n hx hb dX1_squares_0 rfl (lv_at hl 0 rfl) ?_
  refine lv_aload_n hx hb dX1_squares_1 rfl (lv_at hl 0 rfl) ?_
  refine va_get (D := D) (ci := 1) (v := .ref qx) (C := RX1) (T := TX1) (N := 6) hx hb hts in_X1 hown hK hP 0 rfl rfl 2 (by decide) (hts _ q150) (fun _ h9 => h9) rfl dX1_squares_2 ?_
  refine lv_iload_n hx hb dX1_squares_5 rfl (lv_at hl 2 rfl) ?_
  refine cv_V (ci := 1) (n := 2) (As := [.ref qx, .int p1]) (rest := []) (wr := [ar_ qn cA 5 f2, ar_ qy cA 5 f4, ar_ qz cA 5 f5, ar_ qa cA 5 f6]) (w2 := fun u : (Nat → Int64) => [o1_ h0 qf qn qx qy qz qa, ar_ qf cA 20 f1, ar_ qn cA 5 f2, ar_ qx cA 5 u, ar_ qy cA 5 f4, ar_ qz cA 5 f5, ar_ qa cA 5 f6]) hx hb hml hown hts hK (m1_take l D cA h0 qf qn qx qy qz qa qx f1 f3 p1) (lw_V q194 q196 qs7 q12 q197) (by decide +kernel) rfl ⟨rfl, rfl⟩ ⟨Nat.le_of_ble_eq_true rfl, Nat.le_of_ble_eq_true rfl⟩ ⟨Nat.zero_le _, Nat.zero_le _⟩ hP hD hS hA [0, 1, 3] [2, 4, 5, 6] [4, 5, 0, 6, 1, 2, 3] rfl rfl rfl rfl (by decide) (by decide) (by decide) (by decide) (fun _ => rfl) hl.1 rfl (Nat.le_of_ble_eq_true rfl) dX1_squares_6 (fun x1 H locs h1 hP hD hS => ?_)
  have hP : va_P D wk_Cl [o1_ h0 qf qn qx qy qz qa, ar_ qf cA 20 f1, ar_ qn cA 5 f2, ar_ qx cA 5 x1, ar_ qy cA 5 f4, ar_ qz cA 5 f5, ar_ qa cA 5 f6] H := hP
  have hD : va_D A [o1_ h0 qf qn qx qy qz qa, ar_ qf cA 20 f1, ar_ qn cA 5 f2, ar_ qx cA 5 x1, ar_ qy cA 5 f4, ar_ qz cA 5 f5, ar_ qa cA 5 f6] := hD
  refine lv_iconst (v := nI 0) hx hb dX1_squares_9 (by decide) ?_
  refine lv_istore (lv' := [(4, .int (nI 0)), (0, .ref h0), (1, .int p0), (2, .int p1), (3, .int p2)]) hx hb dX1_squares_10 hl (by decide) rfl (fun ls hl => ?_)
  have lp : ∀ (n i : Nat) (fx fz : Nat → Int64), i + n = p2.toBitVec.toNat % 16 + 1 → rp_ fx (gf_sqn i (v (rg_ p1))) → ∀ (H : Heap) (locs : List Loc) (ls : Array Slot), va_P D wk_Cl [o1_ h0 qf qn qx qy qz qa, ar_ qf cA 20 f1, ar_ qn cA 5 f2, ar_ qx cA 5 fx, ar_ qy cA 5 f4, ar_ qz cA 5 fz, ar_ qa cA 5 f6] H → va_D A [o1_ h0 qf qn qx qy qz qa, ar_ qf cA 20 f1, ar_ qn cA 5 f2, ar_ qx cA 5 fx, ar_ qy cA 5 f4, ar_ qz cA 5 fz, ar_ qa cA 5 f6] → va_S A s.heap H locs → lv_has ls 5 [(4, .int (nI i)), (0, .ref h0), (1, .int p0), (2, .int p1), (3, .int p2)] → W p l e (rm_ 2 46) s m ([.ref h0, .int p0, .int p1, .int p2] : List Value).toArray below meth c H locs 0 0 Q (F0 m 12 ls []) := by
    intro n
    induction n with
    | zero =>
      intro i fx fz hi hx1 H locs ls hP hD hS hl
      refine lv_iload hx hb dX1_squares_12 (lv_at hl 0 rfl) ?_
      refine lv_iload_n hx hb dX1_squares_14 rfl (lv_at hl 4 rfl) ?_
      refine lv_bipush (v := nI 15) hx hb dX1_squares_15 (by decide) ?_
      refine lv_iand hx hb dX1_squares_17 ?_
      refine ti_ (nI (p2.toBitVec.toNat % 16)) (pk_and _ 4 (by decide +kernel)) ?_
      refine lv_icmp_gt (tgt := 51) hx hb dX1_squares_18 (by decide) (fun _ => ?_) (fun hc => absurd (nI_lt (by omega) (by omega)) hc)
      have hi : i = p2.toBitVec.toNat % 16 + 1 := by omega
      rw [hi] at hx1
      refine lv_aload_n hx hb dX1_squares_51 rfl (lv_at hl 1 rfl) ?_
      refine lv_iload_n hx hb dX1_squares_52 rfl (lv_at hl 2 rfl) ?_
      refine lv_aload_n hx hb dX1_squares_53 rfl (lv_at hl 1 rfl) ?_
      refine va_get (D := D) (ci := 1) (v := .ref qx) (C := RX1) (T := TX1) (N := 6) hx hb hts in_X1 hown hK hP 0 rfl rfl 2 (by decide) (hts _ q150) (fun _ h9 => h9) rfl dX1_squares_54 ?_
      refine cv_V (ci := 1) (n := 2) (As := [.int p0, .ref qx]) (rest := []) (wr := [ar_ qn cA 5 f2, ar_ qy cA 5 f4, ar_ qz cA 5 fz, ar_ qa cA 5 f6]) (w2 := fun u : (Nat → Int64) => [o1_ h0 qf qn qx qy qz qa, ar_ qf cA 20 u, ar_ qn cA 5 f2, ar_ qx cA 5 fx, ar_ qy cA 5 f4, ar_ qz cA 5 fz, ar_ qa cA 5 f6]) hx hb hml hown hts hK (m1_give l D cA h0 qf qn qx qy qz qa qx f1 fx p0) (lw_V q181 q183 qs6 q12 q184) (by decide +kernel) rfl ⟨rfl, rfl⟩ ⟨Nat.le_of_ble_eq_true rfl, Nat.le_of_ble_eq_true rfl⟩ ⟨Nat.zero_le _, Nat.zero_le _⟩ hP hD hS hA [0, 1, 3] [2, 4, 5, 6] [4, 5, 0, 6, 1, 2, 3] rfl rfl rfl rfl (by decide) (by decide) (by decide) (by decide) (fun _ => rfl) hl.1 rfl (Nat.le_of_ble_eq_true rfl) dX1_squares_57 (fun r1 H locs hs hP hD hS => ?_)
      have hP : va_P D wk_Cl [o1_ h0 qf qn qx qy qz qa, ar_ qf cA 20 r1, ar_ qn cA 5 f2, ar_ qx cA 5 fx, ar_ qy cA 5 f4, ar_ qz cA 5 fz, ar_ qa cA 5 f6] H := hP
      have hD : va_D A [o1_ h0 qf qn qx qy qz qa, ar_ qf cA 20 r1, ar_ qn cA 5 f2, ar_ qx cA 5 fx, ar_ qy cA 5 f4, ar_ qz cA 5 fz, ar_ qa cA 5 f6] := hD
      exact ret (r1, f2, fx, f4, fz, f6) _ _ _ _ dX1_squares_60 ⟨by rw [hs]; exact rgs_set hv hx1 _, rfl⟩ hP hD hS
    | succ n ih =>
      intro i fx fz hi hx1 H locs ls hP hD hS hl
      refine lv_iload hx hb dX1_squares_12 (lv_at hl 0 rfl) ?_
      refine lv_iload_n hx hb dX1_squares_14 rfl (lv_at hl 4 rfl) ?_
      refine lv_bipush (v := nI 15) hx hb dX1_squares_15 (by decide) ?_
      refine lv_iand hx hb dX1_squares_17 ?_
      refine ti_ (nI (p2.toBitVec.toNat % 16)) (pk_and _ 4 (by decide +kernel)) ?_
      refine lv_icmp_gt (tgt := 51) hx hb dX1_squares_18 (by decide) (fun hc => absurd hc (nI_nlt (by omega) (by omega))) (fun _ => ?_)
      refine lv_aload_n hx hb dX1_squares_21 rfl (lv_at hl 1 rfl) ?_
      refine lv_aload_n hx hb dX1_squares_22 rfl (lv_at hl 1 rfl) ?_
      refine va_get (D := D) (ci := 1) (v := .ref qx) (C := RX1) (T := TX1) (N := 6) hx hb hts in_X1 hown hK hP 0 rfl rfl 2 (by decide) (hts _ q150) (fun _ h9 => h9) rfl dX1_squares_23 ?_
      refine lv_aload_n hx hb dX1_squares_26 rfl (lv_at hl 1 rfl) ?_
      refine va_get (D := D) (ci := 1) (v := .ref qx) (C := RX1) (T := TX1) (N := 6) hx hb hts in_X1 hown hK hP 0 rfl rfl 2 (by decide) (hts _ q150) (fun _ h9 => h9) rfl dX1_squares_27 ?_
      refine cv_V (ci := 1) (n := 2) (As := [.ref qx, .ref qx]) (rest := []) (wr := [ar_ qf cA 20 f1, ar_ qn cA 5 f2, ar_ qy cA 5 f4, ar_ qa cA 5 f6]) (w2 := fun u : (Nat → Int64) => [o1_ h0 qf qn qx qy qz qa, ar_ qf cA 20 f1, ar_ qn cA 5 f2, ar_ qx cA 5 fx, ar_ qy cA 5 f4, ar_ qz cA 5 u, ar_ qa cA 5 f6]) hx hb hml hown hts hK (m1_times2 l D cA h0 qf qn qx qy qz qa qx fz fx _ hx1) (lw_V q209 q211 qs8 q12 q212) (by decide +kernel) rfl ⟨rfl, rfl⟩ ⟨Nat.le_of_ble_eq_true rfl, Nat.le_of_ble_eq_true rfl⟩ ⟨Nat.zero_le _, Nat.zero_le _⟩ hP hD hS hA [0, 5, 3] [1, 2, 4, 6] [4, 0, 1, 6, 2, 5, 3] rfl rfl rfl rfl (by decide) (by decide) (by decide) (by decide) (fun _ => rfl) hl.1 rfl (Nat.le_of_ble_eq_true rfl) dX1_squares_30 (fun z1 H locs h3 hP hD hS => ?_)
      have hP : va_P D wk_Cl [o1_ h0 qf qn qx qy qz qa, ar_ qf cA 20 f1, ar_ qn cA 5 f2, ar_ qx cA 5 fx, ar_ qy cA 5 f4, ar_ qz cA 5 z1, ar_ qa cA 5 f6] H := hP
      have hD : va_D A [o1_ h0 qf qn qx qy qz qa, ar_ qf cA 20 f1, ar_ qn cA 5 f2, ar_ qx cA 5 fx, ar_ qy cA 5 f4, ar_ qz cA 5 z1, ar_ qa cA 5 f6] := hD
      refine lv_aload_n hx hb dX1_squares_33 rfl (lv_at hl 1 rfl) ?_
      refine lv_aload_n hx hb dX1_squares_34 rfl (lv_at hl 1 rfl) ?_
      refine va_get (D := D) (ci := 1) (v := .ref qx) (C := RX1) (T := TX1) (N := 6) hx hb hts in_X1 hown hK hP 0 rfl rfl 2 (by decide) (hts _ q150) (fun _ h9 => h9) rfl dX1_squares_35 ?_
      refine lv_aload_n hx hb dX1_squares_38 rfl (lv_at hl 1 rfl) ?_
      refine va_get (D := D) (ci := 1) (v := .ref qz) (C := RX1) (T := TX1) (N := 6) hx hb hts in_X1 hown hK hP 0 rfl rfl 4 (by decide) (hts _ q152) (fun _ h9 => h9) rfl dX1_squares_39 ?_
      refine cv_V (ci := 1) (n := 2) (As := [.ref qx, .ref qz]) (rest := []) (wr := [ar_ qf cA 20 f1, ar_ qn cA 5 f2, ar_ qy cA 5 f4, ar_ qa cA 5 f6]) (w2 := fun u : (Nat → Int64) => [o1_ h0 qf qn qx qy qz qa, ar_ qf cA 20 f1, ar_ qn cA 5 f2, ar_ qx cA 5 u, ar_ qy cA 5 f4, ar_ qz cA 5 z1, ar_ qa cA 5 f6]) hx hb hml hown hts hK (m1_copy l D cA h0 qf qn qx qy qz qa qx qz fx z1) (lw_V q224 q226 qs9 q12 q227) (by decide +kernel) rfl ⟨rfl, rfl⟩ ⟨Nat.le_of_ble_eq_true rfl, Nat.le_of_ble_eq_true rfl⟩ ⟨Nat.zero_le _, Nat.zero_le _⟩ hP hD hS hA [0, 3, 5] [1, 2, 4, 6] [4, 0, 1, 5, 2, 6, 3] rfl rfl rfl rfl (by decide) (by decide) (by decide) (by decide) (fun _ => rfl) hl.1 rfl (Nat.le_of_ble_eq_true rfl) dX1_squares_42 (fun x2 H locs h4 hP hD hS => ?_)
      have hP : va_P D wk_Cl [o1_ h0 qf qn qx qy qz qa, ar_ qf cA 20 f1, ar_ qn cA 5 f2, ar_ qx cA 5 x2, ar_ qy cA 5 f4, ar_ qz cA 5 z1, ar_ qa cA 5 f6] H := hP
      have hD : va_D A [o1_ h0 qf qn qx qy qz qa, ar_ qf cA 20 f1, ar_ qn cA 5 f2, ar_ qx cA 5 x2, ar_ qy cA 5 f4, ar_ qz cA 5 z1, ar_ qa cA 5 f6] := hD
      refine lv_iinc (v := nI (i + 1)) (lv' := [(4, .int (nI (i + 1))), (0, .ref h0), (1, .int p0), (2, .int p1), (3, .int p2)]) hx hb dX1_squares_45 hl (k := 0) rfl (ii_1 _) (by decide) rfl (fun ls hl => ?_)
      refine lv_goto (tgt := 12) hx hb dX1_squares_48 (by decide) ?_
      exact ih (i + 1) x2 z1 (by omega) (rp_congr h3 h4) _ _ _ hP hD hS (lv_sub hl [0, 1, 2, 3, 4] rfl)
  exact lp (p2.toBitVec.toNat % 16 + 1) 0 x1 f5 (Nat.zero_add _) (rgs_get hv p1 h1) _ _ _ hP hD hS (lv_sub hl [0, 1, 2, 3, 4] rfl)
set_option maxHeartbeats 4000000 in
set_option maxRecDepth 100000 in
/-- square(r, p) -/
theorem m1_square (l : Launch) (D : va_G) (cA : ClassId) (h0 qf qn qx qy qz qa : Nat) (f1 f2 f3 f4 f5 f6 : Nat → Int64) (v : Nat → gf_V) (hv : rgs_ f1 v) (p0 p1 : Int32) : MetV_ l yX1_square cX1_square 3 (rm_ 3 70) D cA [.ref h0, .int p0, .int p1] [o1_ h0 qf qn qx qy qz qa, ar_ qf cA 20 f1, ar_ qn cA 5 f2, ar_ qx cA 5 f3, ar_ qy cA 5 f4, ar_ qz cA 5 f5, ar_ qa cA 5 f6] (fun u : (Nat → Int64) × (Nat → Int64) × (Nat → Int64) × (Nat → Int64) × (Nat → Int64) × (Nat → Int64) => rgs_ u.1 (up_ v (rg_ p0) (gf_sq (v (rg_ p1)))) ∧ u.2.1 = f2) (fun u => [o1_ h0 qf qn qx qy qz qa, ar_ qf cA 20 u.1, ar_ qn cA 5 u.2.1, ar_ qx cA 5 u.2.2.1, ar_ qy cA 5 u.2.2.2.1, ar_ qz cA 5 u.2.2.2.2.1, ar_ qa cA 5 u.2.2.2.2.2]) := by
  refine metV_of (by decide) (Nat.le_of_ble_eq_true rfl) ?_
  intro p e s m below meth c A Q hx hb hml hown hts hK hA ret ls hP hD hl
  have hown : s.vm.findClass "Field283Model" = some m.cls := hown
  have hS : va_S A s.heap s.heap [] := va_S.rf
  have hl : lv_has ls 3 [(0, .ref h0), (1, .int p0), (2, .int p1)] := hl
  refine lv_aload_n hx hb dX1_square_0 rfl (lv_at hl 0 rfl) ?_
  refine lv_iload_n hx hb dX1_square_1 rfl (lv_at hl 1 rfl) ?_
  refine lv_iload_n hx hb dX1_square_2 rfl (lv_at hl 2 rfl) ?_
  refine lv_iconst (v := nI 0) hx hb dX1_square_3 (by decide) ?_
  refine cv_V (ci := 1) (n := 3) (As := [.int p0, .int p1, .int (nI 0)]) (rest := []) (wr := []) (w2 := fun u : (Nat → Int64) × (Nat → Int64) × (Nat → Int64) × (Nat → Int64) × (Nat → Int64) × (Nat → Int64) => [o1_ h0 qf qn qx qy qz qa, ar_ qf cA 20 u.1, ar_ qn cA 5 u.2.1, ar_ qx cA 5 u.2.2.1, ar_ qy cA 5 u.2.2.2.1, ar_ qz cA 5 u.2.2.2.2.1, ar_ qa cA 5 u.2.2.2.2.2]) hx hb hml hown hts hK (m1_squares l D cA h0 qf qn qx qy qz qa f1 f2 f3 f4 f5 f6 v hv p0 p1 (nI 0)) (lw_V q220 q221 q222 q12 q223) (by decide +kernel) rfl ⟨rfl, rfl⟩ ⟨Nat.le_of_ble_eq_true rfl, Nat.le_of_ble_eq_true rfl⟩ ⟨Nat.zero_le _, Nat.zero_le _⟩ hP hD hS hA [0, 1, 2, 3, 4, 5, 6] [] [0, 1, 2, 3, 4, 5, 6] rfl rfl rfl rfl (by decide) (by decide) (by decide) (by decide) (fun _ => rfl) hl.1 rfl (Nat.le_of_ble_eq_true rfl) dX1_square_4 (fun u H locs hu hP hD hS => ?_)
  obtain ⟨r1, n1, x1, y1, z1, b1⟩ := u
  have hP : va_P D wk_Cl [o1_ h0 qf qn qx qy qz qa, ar_ qf cA 20 r1, ar_ qn cA 5 n1, ar_ qx cA 5 x1, ar_ qy cA 5 y1, ar_ qz cA 5 z1, ar_ qa cA 5 b1] H := hP
  have hD : va_D A [o1_ h0 qf qn qx qy qz qa, ar_ qf cA 20 r1, ar_ qn cA 5 n1, ar_ qx cA 5 x1, ar_ qy cA 5 y1, ar_ qz cA 5 z1, ar_ qa cA 5 b1] := hD
  exact ret (r1, n1, x1, y1, z1, b1) _ _ _ _ dX1_square_7 hu hP hD hS
set_option maxHeartbeats 4000000 in
set_option maxRecDepth 100000 in
/-- root(r, p) -/
theorem m1_root (l : Launch) (D : va_G) (cA : ClassId) (h0 qf qn qx qy qz qa : Nat) (f1 f2 f3 f4 f5 f6 : Nat → Int64) (v : Nat → gf_V) (hv : rgs_ f1 v) (p0 p1 : Int32) : MetV_ l yX1_root cX1_root 4 (rm_ 2 46) D cA [.ref h0, .int p0, .int p1] [o1_ h0 qf qn qx qy qz qa, ar_ qf cA 20 f1, ar_ qn cA 5 f2, ar_ qx cA 5 f3, ar_ qy cA 5 f4, ar_ qz cA 5 f5, ar_ qa cA 5 f6] (fun u : (Nat → Int64) × (Nat → Int64) × (Nat → Int64) × (Nat → Int64) × (Nat → Int64) × (Nat → Int64) => rgs_ u.1 (up_ v (rg_ p0) (gf_sqn 282 (v (rg_ p1)))) ∧ u.2.1 = f2) (fun u => [o1_ h0 qf qn qx qy qz qa, ar_ qf cA 20 u.1, ar_ qn cA 5 u.2.1, ar_ qx cA 5 u.2.2.1, ar_ qy cA 5 u.2.2.2.1, ar_ qz cA 5 u.2.2.2.2.1, ar_ qa cA 5 u.2.2.2.2.2]) := by
  refine metV_of (by decide) (Nat.le_of_ble_eq_true rfl) ?_
  intro p e s m below meth c A Q hx hb hml hown hts hK hA ret ls hP hD hl
  have hown : s.vm.findClass "Field283Model" = some m.cls := hown
  have hS : va_S A s.heap s.heap [] := va_S.rf
  have hl : lv_has ls 4 [(0, .ref h0), (1, .int p0), (2, .int p1)] := hl
  refine lv_aload_n hx hb dX1_root_0 rfl (lv_at hl 0 rfl) ?_
  refine lv_aload_n hx hb dX1_root_1 rfl (lv_at hl 0 rfl) ?_
  refine va_get (D := D) (ci := 1) (v := .ref qx) (C := RX1) (T := TX1) (N := 6) hx hb hts in_X1 hown hK hP 0 rfl rfl 2 (by decide) (hts _ q150) (fun _ h9 => h9) rfl dX1_root_2 ?_
  refine lv_iload_n hx hb dX1_root_5 rfl (lv_at hl 2 rfl) ?_
  refine cv_V (ci := 1) (n := 2) (As := [.ref qx, .int p1]) (rest := []) (wr := [ar_ qn cA 5 f2, ar_ qy cA 5 f4, ar_ qz cA 5 f5, ar_ qa cA 5 f6]) (w2 := fun u : (Nat → Int64) => [o1_ h0 qf qn qx qy qz qa, ar_ qf cA 20 f1, ar_ qn cA 5 f2, ar_ qx cA 5 u, ar_ qy cA 5 f4, ar_ qz cA 5 f5, ar_ qa cA 5 f6]) hx hb hml hown hts hK (m1_take l D cA h0 qf qn qx qy qz qa qx f1 f3 p1) (lw_V q194 q196 qs7 q12 q197) (by decide +kernel) rfl ⟨rfl, rfl⟩ ⟨Nat.le_of_ble_eq_true rfl, Nat.le_of_ble_eq_true rfl⟩ ⟨Nat.zero_le _, Nat.zero_le _⟩ hP hD hS hA [0, 1, 3] [2, 4, 5, 6] [4, 5, 0, 6, 1, 2, 3] rfl rfl rfl rfl (by decide) (by decide) (by decide) (by decide) (fun _ => rfl) hl.1 rfl (Nat.le_of_ble_eq_true rfl) dX1_root_6 (fun x1 H locs h1 hP hD hS => ?_)
  have hP : va_P D wk_Cl [o1_ h0 qf qn qx qy qz qa, ar_ qf cA 20 f1, ar_ qn cA 5 f2, ar_ qx cA 5 x1, ar_ qy cA 5 f4, ar_ qz cA 5 f5, ar_ qa cA 5 f6] H := hP
  have hD : va_D A [o1_ h0 qf qn qx qy qz qa, ar_ qf cA 20 f1, ar_ qn cA 5 f2, ar_ qx cA 5 x1, ar_ qy cA 5 f4, ar_ qz cA 5 f5, ar_ qa cA 5 f6] := hD
  refine lv_iconst (v := nI 1) hx hb dX1_root_9 (by decide) ?_
  refine lv_istore_n (lv' := [(3, .int (nI 1)), (0, .ref h0), (1, .int p0), (2, .int p1)]) hx hb dX1_root_10 rfl hl (by decide) rfl (fun ls hl => ?_)
  have lp : ∀ (n i : Nat) (fx fz : Nat → Int64), i + n = 282 → rp_ fx (gf_sqn i (v (rg_ p1))) → ∀ (H : Heap) (locs : List Loc) (ls : Array Slot), va_P D wk_Cl [o1_ h0 qf qn qx qy qz qa, ar_ qf cA 20 f1, ar_ qn cA 5 f2, ar_ qx cA 5 fx, ar_ qy cA 5 f4, ar_ qz cA 5 fz, ar_ qa cA 5 f6] H → va_D A [o1_ h0 qf qn qx qy qz qa, ar_ qf cA 20 f1, ar_ qn cA 5 f2, ar_ qx cA 5 fx, ar_ qy cA 5 f4, ar_ qz cA 5 fz, ar_ qa cA 5 f6] → va_S A s.heap H locs → lv_has ls 4 [(3, .int (nI (i + 1))), (0, .ref h0), (1, .int p0), (2, .int p1)] → W p l e (rm_ 2 46) s m ([.ref h0, .int p0, .int p1] : List Value).toArray below meth c H locs 0 0 Q (F0 m 11 ls []) := by
    intro n
    induction n with
    | zero =>
      intro i fx fz hi hx1 H locs ls hP hD hS hl
      obtain rfl : i = 282 := by omega
      refine lv_iload_n hx hb dX1_root_11 rfl (lv_at hl 0 rfl) ?_
      refine lv_sipush (v := nI 283) hx hb dX1_root_12 (by decide) ?_
      refine lv_icmp_ge (tgt := 48) hx hb dX1_root_15 (by decide) (fun _ => ?_) (fun hc => absurd (by decide) hc)
      refine lv_aload_n hx hb dX1_root_48 rfl (lv_at hl 1 rfl) ?_
      refine lv_iload_n hx hb dX1_root_49 rfl (lv_at hl 2 rfl) ?_
      refine lv_aload_n hx hb dX1_root_50 rfl (lv_at hl 1 rfl) ?_
      refine va_get (D := D) (ci := 1) (v := .ref qx) (C := RX1) (T := TX1) (N := 6) hx hb hts in_X1 hown hK hP 0 rfl rfl 2 (by decide) (hts _ q150) (fun _ h9 => h9) rfl dX1_root_51 ?_
      refine cv_V (ci := 1) (n := 2) (As := [.int p0, .ref qx]) (rest := []) (wr := [ar_ qn cA 5 f2, ar_ qy cA 5 f4, ar_ qz cA 5 fz, ar_ qa cA 5 f6]) (w2 := fun u : (Nat → Int64) => [o1_ h0 qf qn qx qy qz qa, ar_ qf cA 20 u, ar_ qn cA 5 f2, ar_ qx cA 5 fx, ar_ qy cA 5 f4, ar_ qz cA 5 fz, ar_ qa cA 5 f6]) hx hb hml hown hts hK (m1_give l D cA h0 qf qn qx qy qz qa qx f1 fx p0) (lw_V q181 q183 qs6 q12 q184) (by decide +kernel) rfl ⟨rfl, rfl⟩ ⟨Nat.le_of_ble_eq_true rfl, Nat.le_of_ble_eq_true rfl⟩ ⟨Nat.zero_le _, Nat.zero_le _⟩ hP hD hS hA [0, 1, 3] [2, 4, 5, 6] [4, 5, 0, 6, 1, 2, 3] rfl rfl rfl rfl (by decide) (by decide) (by decide) (by decide) (fun _ => rfl) hl.1 rfl (Nat.le_of_ble_eq_true rfl) dX1_root_54 (fun r1 H locs hs hP hD hS => ?_)
      have hP : va_P D wk_Cl [o1_ h0 qf qn qx qy qz qa, ar_ qf cA 20 r1, ar_ qn cA 5 f2, ar_ qx cA 5 fx, ar_ qy cA 5 f4, ar_ qz cA 5 fz, ar_ qa cA 5 f6] H := hP
      have hD : va_D A [o1_ h0 qf qn qx qy qz qa, ar_ qf cA 20 r1, ar_ qn cA 5 f2, ar_ qx cA 5 fx, ar_ qy cA 5 f4, ar_ qz cA 5 fz, ar_ qa cA 5 f6] := hD
      exact ret (r1, f2, fx, f4, fz, f6) _ _ _ _ dX1_root_57 ⟨by rw [hs]; exact rgs_set hv hx1 _, rfl⟩ hP hD hS
    | succ n ih =>
      intro i fx fz hi hx1 H locs ls hP hD hS hl
      refine lv_iload_n hx hb dX1_root_11 rfl (lv_at hl 0 rfl) ?_
      refine lv_sipush (v := nI 283) hx hb dX1_root_12 (by decide) ?_
      refine lv_icmp_ge (tgt := 48) hx hb dX1_root_15 (by decide) (fun hc => absurd hc (nI_ge (by omega) (by decide))) (fun _ => ?_)
      refine lv_aload_n hx hb dX1_root_18 rfl (lv_at hl 1 rfl) ?_
      refine lv_aload_n hx hb dX1_root_19 rfl (lv_at hl 1 rfl) ?_
      refine va_get (D := D) (ci := 1) (v := .ref qx) (C := RX1) (T := TX1) (N := 6) hx hb hts in_X1 hown hK hP 0 rfl rfl 2 (by decide) (hts _ q150) (fun _ h9 => h9) rfl dX1_root_20 ?_
      refine lv_aload_n hx hb dX1_root_23 rfl (lv_at hl 1 rfl) ?_
      refine va_get (D := D) (ci := 1) (v := .ref qx) (C := RX1) (T := TX1) (N := 6) hx hb hts in_X1 hown hK hP 0 rfl rfl 2 (by decide) (hts _ q150) (fun _ h9 => h9) rfl dX1_root_24 ?_
      refine cv_V (ci := 1) (n := 2) (As := [.ref qx, .ref qx]) (rest := []) (wr := [ar_ qf cA 20 f1, ar_ qn cA 5 f2, ar_ qy cA 5 f4, ar_ qa cA 5 f6]) (w2 := fun u : (Nat → Int64) => [o1_ h0 qf qn qx qy qz qa, ar_ qf cA 20 f1, ar_ qn cA 5 f2, ar_ qx cA 5 fx, ar_ qy cA 5 f4, ar_ qz cA 5 u, ar_ qa cA 5 f6]) hx hb hml hown hts hK (m1_times2 l D cA h0 qf qn qx qy qz qa qx fz fx _ hx1) (lw_V q209 q211 qs8 q12 q212) (by decide +kernel) rfl ⟨rfl, rfl⟩ ⟨Nat.le_of_ble_eq_true rfl, Nat.le_of_ble_eq_true rfl⟩ ⟨Nat.zero_le _, Nat.zero_le _⟩ hP hD hS hA [0, 5, 3] [1, 2, 4, 6] [4, 0, 1, 6, 2, 5, 3] rfl rfl rfl rfl (by decide) (by decide) (by decide) (by decide) (fun _ => rfl) hl.1 rfl (Nat.le_of_ble_eq_true rfl) dX1_root_27 (fun z1 H locs h3 hP hD hS => ?_)
      have hP : va_P D wk_Cl [o1_ h0 qf qn qx qy qz qa, ar_ qf cA 20 f1, ar_ qn cA 5 f2, ar_ qx cA 5 fx, ar_ qy cA 5 f4, ar_ qz cA 5 z1, ar_ qa cA 5 f6] H := hP
      have hD : va_D A [o1_ h0 qf qn qx qy qz qa, ar_ qf cA 20 f1, ar_ qn cA 5 f2, ar_ qx cA 5 fx, ar_ qy cA 5 f4, ar_ qz cA 5 z1, ar_ qa cA 5 f6] := hD
      refine lv_aload_n hx hb dX1_root_30 rfl (lv_at hl 1 rfl) ?_
      refine lv_aload_n hx hb dX1_root_31 rfl (lv_at hl 1 rfl) ?_
      refine va_get (D := D) (ci := 1) (v := .ref qx) (C := RX1) (T := TX1) (N := 6) hx hb hts in_X1 hown hK hP 0 rfl rfl 2 (by decide) (hts _ q150) (fun _ h9 => h9) rfl dX1_root_32 ?_
      refine lv_aload_n hx hb dX1_root_35 rfl (lv_at hl 1 rfl) ?_
      refine va_get (D := D) (ci := 1) (v := .ref qz) (C := RX1) (T := TX1) (N := 6) hx hb hts in_X1 hown hK hP 0 rfl rfl 4 (by decide) (hts _ q152) (fun _ h9 => h9) rfl dX1_root_36 ?_
      refine cv_V (ci := 1) (n := 2) (As := [.ref qx, .ref qz]) (rest := []) (wr := [ar_ qf cA 20 f1, ar_ qn cA 5 f2, ar_ qy cA 5 f4, ar_ qa cA 5 f6]) (w2 := fun u : (Nat → Int64) => [o1_ h0 qf qn qx qy qz qa, ar_ qf cA 20 f1, ar_ qn cA 5 f2, ar_ qx cA 5 u, ar_ qy cA 5 f4, ar_ qz cA 5 z1, ar_ qa cA 5 f6]) hx hb hml hown hts hK (m1_copy l D cA h0 qf qn qx qy qz qa qx qz fx z1) (lw_V q224 q226 qs9 q12 q227) (by decide +kernel) rfl ⟨rfl, rfl⟩ ⟨Nat.le_of_ble_eq_true rfl, Nat.le_of_ble_eq_true rfl⟩ ⟨Nat.zero_le _, Nat.zero_le _⟩ hP hD hS hA [0, 3, 5] [1, 2, 4, 6] [4, 0, 1, 5, 2, 6, 3] rfl rfl rfl rfl (by decide) (by decide) (by decide) (by decide) (fun _ => rfl) hl.1 rfl (Nat.le_of_ble_eq_true rfl) dX1_root_39 (fun x2 H locs h4 hP hD hS => ?_)
      have hP : va_P D wk_Cl [o1_ h0 qf qn qx qy qz qa, ar_ qf cA 20 f1, ar_ qn cA 5 f2, ar_ qx cA 5 x2, ar_ qy cA 5 f4, ar_ qz cA 5 z1, ar_ qa cA 5 f6] H := hP
      have hD : va_D A [o1_ h0 qf qn qx qy qz qa, ar_ qf cA 20 f1, ar_ qn cA 5 f2, ar_ qx cA 5 x2, ar_ qy cA 5 f4, ar_ qz cA 5 z1, ar_ qa cA 5 f6] := hD
      refine lv_iinc (v := nI (i + 1 + 1)) (lv' := [(3, .int (nI (i + 1 + 1))), (0, .ref h0), (1, .int p0), (2, .int p1)]) hx hb dX1_root_42 hl (k := 0) rfl (ii_1 _) (by decide) rfl (fun ls hl => ?_)
      refine lv_goto (tgt := 11) hx hb dX1_root_45 (by decide) ?_
      exact ih (i + 1) x2 z1 (by omega) (rp_congr h3 h4) _ _ _ hP hD hS (lv_sub hl [0, 1, 2, 3] rfl)
  exact lp 282 0 x1 f5 rfl (rgs_get hv p1 h1) _ _ _ hP hD hS (lv_sub hl [0, 1, 2, 3] rfl)
set_option maxHeartbeats 4000000 in
set_option maxRecDepth 100000 in
/-- trace(p) -/
theorem m1_trace (l : Launch) (D : va_G) (cA : ClassId) (h0 qf qn qx qy qz qa : Nat) (f1 f2 f3 f4 f5 f6 : Nat → Int64) (v : Nat → gf_V) (hv : rgs_ f1 v) (p0 : Int32) : MetI_ l yX1_trace cX1_trace 4 .int (rm_ 2 46) D cA [.ref h0, .int p0] [o1_ h0 qf qn qx qy qz qa, ar_ qf cA 20 f1, ar_ qn cA 5 f2, ar_ qx cA 5 f3, ar_ qy cA 5 f4, ar_ qz cA 5 f5, ar_ qa cA 5 f6] (fun (r : Int32) (u : (Nat → Int64) × (Nat → Int64) × (Nat → Int64) × (Nat → Int64) × (Nat → Int64) × (Nat → Int64)) => r = tr_ (v (rg_ p0)) ∧ rgs_ u.1 v ∧ u.2.1 = f2) (fun u => [o1_ h0 qf qn qx qy qz qa, ar_ qf cA 20 u.1, ar_ qn cA 5 u.2.1, ar_ qx cA 5 u.2.2.1, ar_ qy cA 5 u.2.2.2.1, ar_ qz cA 5 u.2.2.2.2.1, ar_ qa cA 5 u.2.2.2.2.2]) := by
  refine metI_of (by decide) (Nat.le_of_ble_eq_true rfl) ?_
  intro p e s m below meth c A Q hx hb hml hown hts hK hA ret ls hP hD hl
  have hown : s.vm.findClass "Field283Model" = some m.cls := hown
  have hS : va_S A s.heap s.heap [] := va_S.rf
  have hl : lv_has ls 4 [(0, .ref h0), (1, .int p0)] := hl
  have lq : ∀ k, k < 5 → ¬ nI 5 ≤ nI k := by decide +kernel
  refine lv_aload_n hx hb dX1_trace_0 rfl (lv_at hl 0 rfl) ?_
  refine lv_aload_n hx hb dX1_trace_1 rfl (lv_at hl 0 rfl) ?_
  refine va_get (D := D) (ci := 1) (v := .ref qx) (C := RX1) (T := TX1) (N := 6) hx hb hts in_X1 hown hK hP 0 rfl rfl 2 (by decide) (hts _ q150) (fun _ h9 => h9) rfl dX1_trace_2 ?_
  refine lv_iload_n hx hb dX1_trace_5 rfl (lv_at hl 1 rfl) ?_
  refine cv_V (ci := 1) (n := 2) (As := [.ref qx, .int p0]) (rest := []) (wr := [ar_ qn cA 5 f2, ar_ qy cA 5 f4, ar_ qz cA 5 f5, ar_ qa cA 5 f6]) (w2 := fun u : (Nat → Int64) => [o1_ h0 qf qn qx qy qz qa, ar_ qf cA 20 f1, ar_ qn cA 5 f2, ar_ qx cA 5 u, ar_ qy cA 5 f4, ar_ qz cA 5 f5, ar_ qa cA 5 f6]) hx hb hml hown hts hK (m1_take l D cA h0 qf qn qx qy qz qa qx f1 f3 p0) (lw_V q194 q196 qs7 q12 q197) (by decide +kernel) rfl ⟨rfl, rfl⟩ ⟨Nat.le_of_ble_eq_true rfl, Nat.le_of_ble_eq_true rfl⟩ ⟨Nat.zero_le _, Nat.zero_le _⟩ hP hD hS hA [0, 1, 3] [2, 4, 5, 6] [4, 5, 0, 6, 1, 2, 3] rfl rfl rfl rfl (by decide) (by decide) (by decide) (by decide) (fun _ => rfl) hl.1 rfl (Nat.le_of_ble_eq_true rfl) dX1_trace_6 (fun x1 H locs h1 hP hD hS => ?_)
  have hP : va_P D wk_Cl [o1_ h0 qf qn qx qy qz qa, ar_ qf cA 20 f1, ar_ qn cA 5 f2, ar_ qx cA 5 x1, ar_ qy cA 5 f4, ar_ qz cA 5 f5, ar_ qa cA 5 f6] H := hP
  have hD : va_D A [o1_ h0 qf qn qx qy qz qa, ar_ qf cA 20 f1, ar_ qn cA 5 f2, ar_ qx cA 5 x1, ar_ qy cA 5 f4, ar_ qz cA 5 f5, ar_ qa cA 5 f6] := hD
  refine lv_aload_n hx hb dX1_trace_9 rfl (lv_at hl 0 rfl) ?_
  refine lv_aload_n hx hb dX1_trace_10 rfl (lv_at hl 0 rfl) ?_
  refine va_get (D := D) (ci := 1) (v := .ref qa) (C := RX1) (T := TX1) (N := 6) hx hb hts in_X1 hown hK hP 0 rfl rfl 5 (by decide) (hts _ q153) (fun _ h9 => h9) rfl dX1_trace_11 ?_
  refine lv_aload_n hx hb dX1_trace_14 rfl (lv_at hl 0 rfl) ?_
  refine va_get (D := D) (ci := 1) (v := .ref qx) (C := RX1) (T := TX1) (N := 6) hx hb hts in_X1 hown hK hP 0 rfl rfl 2 (by decide) (hts _ q150) (fun _ h9 => h9) rfl dX1_trace_15 ?_
  refine cv_V (ci := 1) (n := 2) (As := [.ref qa, .ref qx]) (rest := []) (wr := [ar_ qf cA 20 f1, ar_ qn cA 5 f2, ar_ qy cA 5 f4, ar_ qz cA 5 f5]) (w2 := fun u : (Nat → Int64) => [o1_ h0 qf qn qx qy qz qa, ar_ qf cA 20 f1, ar_ qn cA 5 f2, ar_ qx cA 5 x1, ar_ qy cA 5 f4, ar_ qz cA 5 f5, ar_ qa cA 5 u]) hx hb hml hown hts hK (m1_copy l D cA h0 qf qn qx qy qz qa qa qx f6 x1) (lw_V q224 q226 qs9 q12 q227) (by decide +kernel) rfl ⟨rfl, rfl⟩ ⟨Nat.le_of_ble_eq_true rfl, Nat.le_of_ble_eq_true rfl⟩ ⟨Nat.zero_le _, Nat.zero_le _⟩ hP hD hS hA [0, 6, 3] [1, 2, 4, 5] [4, 0, 1, 6, 2, 3, 5] rfl rfl rfl rfl (by decide) (by decide) (by decide) (by decide) (fun _ => rfl) hl.1 rfl (Nat.le_of_ble_eq_true rfl) dX1_trace_18 (fun a1 H locs h2 hP hD hS => ?_)
  have hP : va_P D wk_Cl [o1_ h0 qf qn qx qy qz qa, ar_ qf cA 20 f1, ar_ qn cA 5 f2, ar_ qx cA 5 x1, ar_ qy cA 5 f4, ar_ qz cA 5 f5, ar_ qa cA 5 a1] H := hP
  have hD : va_D A [o1_ h0 qf qn qx qy qz qa, ar_ qf cA 20 f1, ar_ qn cA 5 f2, ar_ qx cA 5 x1, ar_ qy cA 5 f4, ar_ qz cA 5 f5, ar_ qa cA 5 a1] := hD
  have hx1 := rgs_get hv p0 h1
  refine lv_iconst (v := nI 1) hx hb dX1_trace_21 (by decide) ?_
  refine lv_istore_n (lv' := [(2, .int (nI 1)), (0, .ref h0), (1, .int p0)]) hx hb dX1_trace_22 rfl hl (by decide) rfl (fun ls hl => ?_)
  have lp : ∀ (n i : Nat) (fx fz fa : Nat → Int64), i + n = 282 → rp_ fx (gf_sqn i (v (rg_ p0))) → rp_ fa ((v (rg_ p0)) ^^^ gf_S i (fun j => gf_sqn (j + 1) (v (rg_ p0)))) → ∀ (H : Heap) (locs : List Loc) (ls : Array Slot), va_P D wk_Cl [o1_ h0 qf qn qx qy qz qa, ar_ qf cA 20 f1, ar_ qn cA 5 f2, ar_ qx cA 5 fx, ar_ qy cA 5 f4, ar_ qz cA 5 fz, ar_ qa cA 5 fa] H → va_D A [o1_ h0 qf qn qx qy qz qa, ar_ qf cA 20 f1, ar_ qn cA 5 f2, ar_ qx cA 5 fx, ar_ qy cA 5 f4, ar_ qz cA 5 fz, ar_ qa cA 5 fa] → va_S A s.heap H locs → lv_has ls 4 [(2, .int (nI (i + 1))), (0, .ref h0), (1, .int p0)] → W p l e (rm_ 2 46) s m ([.ref h0, .int p0] : List Value).toArray below meth c H locs 0 0 Q (F0 m 23 ls []) := by
    intro n
    induction n with
    | zero =>
      intro i fx fz fa hi hx2 ha H locs ls hP hD hS hl
      obtain rfl : i = 282 := by omega
      refine lv_iload_n hx hb dX1_trace_23 rfl (lv_at hl 0 rfl) ?_
      refine lv_sipush (v := nI 283) hx hb dX1_trace_24 (by decide) ?_
      refine lv_icmp_ge (tgt := 92) hx hb dX1_trace_27 (by decide) (fun _ => ?_) (fun hc => absurd (by decide) hc)
      rw [gf_trace] at ha
      refine lv_aload_n hx hb dX1_trace_92 rfl (lv_at hl 1 rfl) ?_
      refine va_get (D := D) (ci := 1) (v := .ref qa) (C := RX1) (T := TX1) (N := 6) hx hb hts in_X1 hown hK hP 0 rfl rfl 5 (by decide) (hts _ q153) (fun _ h9 => h9) rfl dX1_trace_93 ?_
      refine lv_iconst (v := nI 0) hx hb dX1_trace_96 (by decide) ?_
      refine la_ (v := fa 0) hx hb hK hP 6 rfl 0 rfl (by decide) (by decide) rfl dX1_trace_97 ?_
      refine lv_l2i (v := (fa 0).toInt32) hx hb dX1_trace_98 rfl ?_
      refine ti_ (tr_ (v (rg_ p0))) (tr_model ha) ?_
      exact ret _ (f1, f2, fx, f4, fz, fa) _ _ _ _ dX1_trace_99 (vp_nar_int _) ⟨rfl, hv, rfl⟩ hP hD hS
    | succ n ih =>
      intro i fx fz fa hi hx2 ha H locs ls hP hD hS hl
      refine lv_iload_n hx hb dX1_trace_23 rfl (lv_at hl 0 rfl) ?_
      refine lv_sipush (v := nI 283) hx hb dX1_trace_24 (by decide) ?_
      refine lv_icmp_ge (tgt := 92) hx hb dX1_trace_27 (by decide) (fun hc => absurd hc (nI_ge (by omega) (by decide))) (fun _ => ?_)
      refine lv_aload_n hx hb dX1_trace_30 rfl (lv_at hl 1 rfl) ?_
      refine lv_aload_n hx hb dX1_trace_31 rfl (lv_at hl 1 rfl) ?_
      refine va_get (D := D) (ci := 1) (v := .ref qx) (C := RX1) (T := TX1) (N := 6) hx hb hts in_X1 hown hK hP 0 rfl rfl 2 (by decide) (hts _ q150) (fun _ h9 => h9) rfl dX1_trace_32 ?_
      refine lv_aload_n hx hb dX1_trace_35 rfl (lv_at hl 1 rfl) ?_
      refine va_get (D := D) (ci := 1) (v := .ref qx) (C := RX1) (T := TX1) (N := 6) hx hb hts in_X1 hown hK hP 0 rfl rfl 2 (by decide) (hts _ q150) (fun _ h9 => h9) rfl dX1_trace_36 ?_
      refine cv_V (ci := 1) (n := 2) (As := [.ref qx, .ref qx]) (rest := []) (wr := [ar_ qf cA 20 f1, ar_ qn cA 5 f2, ar_ qy cA 5 f4, ar_ qa cA 5 fa]) (w2 := fun u : (Nat → Int64) => [o1_ h0 qf qn qx qy qz qa, ar_ qf cA 20 f1, ar_ qn cA 5 f2, ar_ qx cA 5 fx, ar_ qy cA 5 f4, ar_ qz cA 5 u, ar_ qa cA 5 fa]) hx hb hml hown hts hK (m1_times2 l D cA h0 qf qn qx qy qz qa qx fz fx _ hx2) (lw_V q209 q211 qs8 q12 q212) (by decide +kernel) rfl ⟨rfl, rfl⟩ ⟨Nat.le_of_ble_eq_true rfl, Nat.le_of_ble_eq_true rfl⟩ ⟨Nat.zero_le _, Nat.zero_le _⟩ hP hD hS hA [0, 5, 3] [1, 2, 4, 6] [4, 0, 1, 6, 2, 5, 3] rfl rfl rfl rfl (by decide) (by decide) (by decide) (by decide) (fun _ => rfl) hl.1 rfl (Nat.le_of_ble_eq_true rfl) dX1_trace_39 (fun z1 H locs h3 hP hD hS => ?_)
      have hP : va_P D wk_Cl [o1_ h0 qf qn qx qy qz qa, ar_ qf cA 20 f1, ar_ qn cA 5 f2, ar_ qx cA 5 fx, ar_ qy cA 5 f4, ar_ qz cA 5 z1, ar_ qa cA 5 fa] H := hP
      have hD : va_D A [o1_ h0 qf qn qx qy qz qa, ar_ qf cA 20 f1, ar_ qn cA 5 f2, ar_ qx cA 5 fx, ar_ qy cA 5 f4, ar_ qz cA 5 z1, ar_ qa cA 5 fa] := hD
      refine lv_aload_n hx hb dX1_trace_42 rfl (lv_at hl 1 rfl) ?_
      refine lv_aload_n hx hb dX1_trace_43 rfl (lv_at hl 1 rfl) ?_
      refine va_get (D := D) (ci := 1) (v := .ref qx) (C := RX1) (T := TX1) (N := 6) hx hb hts in_X1 hown hK hP 0 rfl rfl 2 (by decide) (hts _ q150) (fun _ h9 => h9) rfl dX1_trace_44 ?_
      refine lv_aload_n hx hb dX1_trace_47 rfl (lv_at hl 1 rfl) ?_
      refine va_get (D := D) (ci := 1) (v := .ref qz) (C := RX1) (T := TX1) (N := 6) hx hb hts in_X1 hown hK hP 0 rfl rfl 4 (by decide) (hts _ q152) (fun _ h9 => h9) rfl dX1_trace_48 ?_
      refine cv_V (ci := 1) (n := 2) (As := [.ref qx, .ref qz]) (rest := []) (wr := [ar_ qf cA 20 f1, ar_ qn cA 5 f2, ar_ qy cA 5 f4, ar_ qa cA 5 fa]) (w2 := fun u : (Nat → Int64) => [o1_ h0 qf qn qx qy qz qa, ar_ qf cA 20 f1, ar_ qn cA 5 f2, ar_ qx cA 5 u, ar_ qy cA 5 f4, ar_ qz cA 5 z1, ar_ qa cA 5 fa]) hx hb hml hown hts hK (m1_copy l D cA h0 qf qn qx qy qz qa qx qz fx z1) (lw_V q224 q226 qs9 q12 q227) (by decide +kernel) rfl ⟨rfl, rfl⟩ ⟨Nat.le_of_ble_eq_true rfl, Nat.le_of_ble_eq_true rfl⟩ ⟨Nat.zero_le _, Nat.zero_le _⟩ hP hD hS hA [0, 3, 5] [1, 2, 4, 6] [4, 0, 1, 5, 2, 6, 3] rfl rfl rfl rfl (by decide) (by decide) (by decide) (by decide) (fun _ => rfl) hl.1 rfl (Nat.le_of_ble_eq_true rfl) dX1_trace_51 (fun x2 H locs h4 hP hD hS => ?_)
      have hP : va_P D wk_Cl [o1_ h0 qf qn qx qy qz qa, ar_ qf cA 20 f1, ar_ qn cA 5 f2, ar_ qx cA 5 x2, ar_ qy cA 5 f4, ar_ qz cA 5 z1, ar_ qa cA 5 fa] H := hP
      have hD : va_D A [o1_ h0 qf qn qx qy qz qa, ar_ qf cA 20 f1, ar_ qn cA 5 f2, ar_ qx cA 5 x2, ar_ qy cA 5 f4, ar_ qz cA 5 z1, ar_ qa cA 5 fa] := hD
      have h5 : rp_ x2 (gf_sqn (i + 1) (v (rg_ p0))) := rp_congr h3 h4
      refine lv_iconst (v := nI 0) hx hb dX1_trace_54 (by decide) ?_
      refine lv_istore_n (lv' := [(3, .int (nI 0)), (2, .int (nI (i + 1))), (0, .ref h0), (1, .int p0)]) hx hb dX1_trace_55 rfl hl (by decide) rfl (fun ls hl => ?_)
      have l3 : ∀ (nz k : Nat), k + nz = 5 → ∀ (H : Heap) (locs : List Loc) (ls : Array Slot), va_P D wk_Cl [o1_ h0 qf qn qx qy qz qa, ar_ qf cA 20 f1, ar_ qn cA 5 f2, ar_ qx cA 5 x2, ar_ qy cA 5 f4, ar_ qz cA 5 z1, ar_ qa cA 5 (f0_ fa (fun k => fa k ^^^ x2 k) k)] H → va_D A [o1_ h0 qf qn qx qy qz qa, ar_ qf cA 20 f1, ar_ qn cA 5 f2, ar_ qx cA 5 x2, ar_ qy cA 5 f4, ar_ qz cA 5 z1, ar_ qa cA 5 (f0_ fa (fun k => fa k ^^^ x2 k) k)] → va_S A s.heap H locs → lv_has ls 4 [(3, .int (nI k)), (2, .int (nI (i + 1))), (0, .ref h0), (1, .int p0)] → W p l e (rm_ 2 46) s m ([.ref h0, .int p0] : List Value).toArray below meth c H locs 0 0 Q (F0 m 56 ls []) := by
        intro nz
        induction nz with
        | zero =>
          intro k hkk H locs ls hP hD hS hl
          obtain rfl : k = 5 := by omega
          refine lv_iload_n hx hb dX1_trace_56 rfl (lv_at hl 0 rfl) ?_
          refine lv_iconst (v := nI 5) hx hb dX1_trace_57 (by decide) ?_
          refine lv_icmp_ge (tgt := 86) hx hb dX1_trace_58 (by decide) (fun _ => ?_) (fun hc => absurd (by decide) hc)
          refine lv_iinc (v := nI (i + 1 + 1)) (lv' := [(2, .int (nI (i + 1 + 1))), (3, .int (nI 5)), (0, .ref h0), (1, .int p0)]) hx hb dX1_trace_86 hl (k := 1) rfl (ii_1 _) (by decide) rfl (fun ls hl => ?_)
          refine lv_goto (tgt := 23) hx hb dX1_trace_89 (by decide) ?_
          have h6 := rp_congr (rp_xor ha h5) (fun k hk => f0_in fa (fun k => fa k ^^^ x2 k) 5 k hk)
          rw [BitVec.xor_assoc] at h6
          exact ih (i + 1) x2 z1 (f0_ fa (fun k => fa k ^^^ x2 k) 5) (by omega) h5 h6 _ _ _ hP hD hS (lv_sub hl [0, 2, 3] rfl)
        | succ nz ihz =>
          intro k hkk H locs ls hP hD hS hl
          have hk : k < 5 := by omega
          refine lv_iload_n hx hb dX1_trace_56 rfl (lv_at hl 0 rfl) ?_
          refine lv_iconst (v := nI 5) hx hb dX1_trace_57 (by decide) ?_
          refine lv_icmp_ge (tgt := 86) hx hb dX1_trace_58 (by decide) (fun hc => absurd hc (lq k hk)) (fun _ => ?_)
          refine lv_aload_n hx hb dX1_trace_61 rfl (lv_at hl 2 rfl) ?_
          refine va_get (D := D) (ci := 1) (v := .ref qa) (C := RX1) (T := TX1) (N := 6) hx hb hts in_X1 hown hK hP 0 rfl rfl 5 (by decide) (hts _ q153) (fun _ h9 => h9) rfl dX1_trace_62 ?_
          refine lv_iload_n hx hb dX1_trace_65 rfl (lv_at hl 0 rfl) ?_
          refine lv_aload_n hx hb dX1_trace_66 rfl (lv_at hl 2 rfl) ?_
          refine va_get (D := D) (ci := 1) (v := .ref qa) (C := RX1) (T := TX1) (N := 6) hx hb hts in_X1 hown hK hP 0 rfl rfl 5 (by decide) (hts _ q153) (fun _ h9 => h9) rfl dX1_trace_67 ?_
          refine lv_iload_n hx hb dX1_trace_70 rfl (lv_at hl 0 rfl) ?_
          refine la_ (v := fa k) hx hb hK hP 6 rfl k rfl (by omega) (by decide) (f0_out fa _ k k (Nat.le_refl k)) dX1_trace_71 ?_
          refine lv_aload_n hx hb dX1_trace_72 rfl (lv_at hl 2 rfl) ?_
          refine va_get (D := D) (ci := 1) (v := .ref qx) (C := RX1) (T := TX1) (N := 6) hx hb hts in_X1 hown hK hP 0 rfl rfl 2 (by decide) (hts _ q150) (fun _ h9 => h9) rfl dX1_trace_73 ?_
          refine lv_iload_n hx hb dX1_trace_76 rfl (lv_at hl 0 rfl) ?_
          refine la_ (v := x2 k) hx hb hK hP 3 rfl k rfl (by omega) (by decide) rfl dX1_trace_77 ?_
          refine lv_lxor hx hb dX1_trace_78 ?_
          refine st_ hx hb hK hP hD hS 6 rfl k rfl (by omega) (by decide) dX1_trace_79 (fun g_1 H locs hg_1 hP hD hS => ?_)
          obtain rfl : g_1 = f0_ fa (fun k => fa k ^^^ x2 k) (k + 1) := hg_1
          have hP : va_P D wk_Cl [o1_ h0 qf qn qx qy qz qa, ar_ qf cA 20 f1, ar_ qn cA 5 f2, ar_ qx cA 5 x2, ar_ qy cA 5 f4, ar_ qz cA 5 z1, ar_ qa cA 5 (f0_ fa (fun k => fa k ^^^ x2 k) (k + 1))] H := hP
          have hD : va_D A [o1_ h0 qf qn qx qy qz qa, ar_ qf cA 20 f1, ar_ qn cA 5 f2, ar_ qx cA 5 x2, ar_ qy cA 5 f4, ar_ qz cA 5 z1, ar_ qa cA 5 (f0_ fa (fun k => fa k ^^^ x2 k) (k + 1))] := hD
          refine lv_iinc (v := nI (k + 1)) (lv' := [(3, .int (nI (k + 1))), (2, .int (nI (i + 1))), (0, .ref h0), (1, .int p0)]) hx hb dX1_trace_80 hl (k := 0) rfl (ii_1 _) (by decide) rfl (fun ls hl => ?_)
          refine lv_goto (tgt := 56) hx hb dX1_trace_83 (by decide) ?_
          exact ihz (k + 1) (by omega) _ _ _ hP hD hS (lv_sub hl [0, 1, 2, 3] rfl)
      exact l3 5 0 rfl _ _ _ hP hD hS (lv_sub hl [0, 1, 2, 3] rfl)
  exact lp 282 0 x1 f5 a1 rfl hx1 (by rw [show gf_S 0 (fun j => gf_sqn (j + 1) (v (rg_ p0))) = 0#283 from rfl, BitVec.xor_zero]; exact rp_congr hx1 h2) _ _ _ hP hD hS (lv_sub hl [0, 1, 2] rfl)
end
section
set_option maxHeartbeats 4000000 in
set_option maxRecDepth 100000 in
/-- invert(r, p) -/
theorem m1_invert (l : Launch) (D : va_G) (cA : ClassId) (h0 qf qn qx qy qz qa : Nat) (f1 f2 f3 f4 f5 f6 : Nat → Int64) (v : Nat → gf_V) (hv : rgs_ f1 v) (p0 p1 : Int32) : MetI_ l yX1_invert cX1_invert 5 .boolean (rm_ 2 46) D cA [.ref h0, .int p0, .int p1] [o1_ h0 qf qn qx qy qz qa, ar_ qf cA 20 f1, ar_ qn cA 5 f2, ar_ qx cA 5 f3, ar_ qy cA 5 f4, ar_ qz cA 5 f5, ar_ qa cA 5 f6] (fun (r : Int32) (u : (Nat → Int64) × (Nat → Int64) × (Nat → Int64) × (Nat → Int64) × (Nat → Int64) × (Nat → Int64)) => r = iv_r (v (rg_ p1)) ∧ rgs_ u.1 (iv_v v (rg_ p0) (v (rg_ p1))) ∧ u.2.1 = f2) (fun u => [o1_ h0 qf qn qx qy qz qa, ar_ qf cA 20 u.1, ar_ qn cA 5 u.2.1, ar_ qx cA 5 u.2.2.1, ar_ qy cA 5 u.2.2.2.1, ar_ qz cA 5 u.2.2.2.2.1, ar_ qa cA 5 u.2.2.2.2.2]) := by
  refine metI_of (by decide) (Nat.le_of_ble_eq_true rfl) ?_
  intro p e s m below meth c A Q hx hb hml hown hts hK hA ret ls hP hD hl
  have hown : s.vm.findClass "Field283Model" = some m.cls := hown
  have hS : va_S A s.heap s.heap [] := va_S.rf
  have hl : lv_has ls 5 [(0, .ref h0), (1, .int p0), (2, .int p1)] := hl
  have lq : ∀ k, k < 5 → ¬ nI 5 ≤ nI k := by decide +kernel
  refine lv_aload_n hx hb dX1_invert_0 rfl (lv_at hl 0 rfl) ?_
  refine lv_aload_n hx hb dX1_invert_1 rfl (lv_at hl 0 rfl) ?_
  refine va_get (D := D) (ci := 1) (v := .ref qy) (C := RX1) (T := TX1) (N := 6) hx hb hts in_X1 hown hK hP 0 rfl rfl 3 (by decide) (hts _ q151) (fun _ h9 => h9) rfl dX1_invert_2 ?_
  refine lv_iload_n hx hb dX1_invert_5 rfl (lv_at hl 2 rfl) ?_
  refine cv_V (ci := 1) (n := 2) (As := [.ref qy, .int p1]) (rest := []) (wr := [ar_ qn cA 5 f2, ar_ qx cA 5 f3, ar_ qz cA 5 f5, ar_ qa cA 5 f6]) (w2 := fun u : (Nat → Int64) => [o1_ h0 qf qn qx qy qz qa, ar_ qf cA 20 f1, ar_ qn cA 5 f2, ar_ qx cA 5 f3, ar_ qy cA 5 u, ar_ qz cA 5 f5, ar_ qa cA 5 f6]) hx hb hml hown hts hK (m1_take l D cA h0 qf qn qx qy qz qa qy f1 f4 p1) (lw_V q194 q196 qs7 q12 q197) (by decide +kernel) rfl ⟨rfl, rfl⟩ ⟨Nat.le_of_ble_eq_true rfl, Nat.le_of_ble_eq_true rfl⟩ ⟨Nat.zero_le _, Nat.zero_le _⟩ hP hD hS hA [0, 1, 4] [2, 3, 5, 6] [4, 5, 0, 1, 6, 2, 3] rfl rfl rfl rfl (by decide) (by decide) (by decide) (by decide) (fun _ => rfl) hl.1 rfl (Nat.le_of_ble_eq_true rfl) dX1_invert_6 (fun y1 H locs h1 hP hD hS => ?_)
  have hP : va_P D wk_Cl [o1_ h0 qf qn qx qy qz qa, ar_ qf cA 20 f1, ar_ qn cA 5 f2, ar_ qx cA 5 f3, ar_ qy cA 5 y1, ar_ qz cA 5 f5, ar_ qa cA 5 f6] H := hP
  have hD : va_D A [o1_ h0 qf qn qx qy qz qa, ar_ qf cA 20 f1, ar_ qn cA 5 f2, ar_ qx cA 5 f3, ar_ qy cA 5 y1, ar_ qz cA 5 f5, ar_ qa cA 5 f6] := hD
  have hy := rgs_get hv p1 h1
  refine lv_iconst (v := nI 0) hx hb dX1_invert_9 (by decide) ?_
  refine lv_istore_n (lv' := [(3, .int (nI 0)), (0, .ref h0), (1, .int p0), (2, .int p1)]) hx hb dX1_invert_10 rfl hl (by decide) rfl (fun ls hl => ?_)
  refine lv_iconst (v := nI 0) hx hb dX1_invert_11 (by decide) ?_
  refine lv_istore (lv' := [(4, .int (nI 0)), (3, .int (nI 0)), (0, .ref h0), (1, .int p0), (2, .int p1)]) hx hb dX1_invert_12 hl (by decide) rfl (fun ls hl => ?_)
  have lp : ∀ (n k : Nat), k + n = 5 → ∀ (H : Heap) (locs : List Loc) (ls : Array Slot), va_P D wk_Cl [o1_ h0 qf qn qx qy qz qa, ar_ qf cA 20 f1, ar_ qn cA 5 f2, ar_ qx cA 5 f3, ar_ qy cA 5 y1, ar_ qz cA 5 f5, ar_ qa cA 5 f6] H → va_D A [o1_ h0 qf qn qx qy qz qa, ar_ qf cA 20 f1, ar_ qn cA 5 f2, ar_ qx cA 5 f3, ar_ qy cA 5 y1, ar_ qz cA 5 f5, ar_ qa cA 5 f6] → va_S A s.heap H locs → lv_has ls 5 [(4, .int (nI k)), (3, .int (nI (sm_ y1 k))), (0, .ref h0), (1, .int p0), (2, .int p1)] → W p l e (rm_ 2 46) s m ([.ref h0, .int p0, .int p1] : List Value).toArray below meth c H locs 0 0 Q (F0 m 14 ls []) := by
    intro n
    induction n with
    | zero =>
      intro k hk H locs ls hP hD hS hl
      obtain rfl : k = 5 := by omega
      refine lv_iload hx hb dX1_invert_14 (lv_at hl 0 rfl) ?_
      refine lv_iconst (v := nI 5) hx hb dX1_invert_16 (by decide) ?_
      refine lv_icmp_ge (tgt := 48) hx hb dX1_invert_17 (by decide) (fun _ => ?_) (fun hc => absurd (by decide) hc)
      refine lv_iload_n hx hb dX1_invert_48 rfl (lv_at hl 1 rfl) ?_
      refine lv_if_ne (tgt := 54) hx hb dX1_invert_49 (by decide) (fun hc => ?_) (fun hc => ?_)
      · have hx0 : ¬ (v (rg_ p1)) = 0#283 := fun e => hc ((sm_i y1 5).mpr ((sm_rp hy).mpr e))
        refine lv_aload_n hx hb dX1_invert_54 rfl (lv_at hl 2 rfl) ?_
        refine lv_aload_n hx hb dX1_invert_55 rfl (lv_at hl 2 rfl) ?_
        refine va_get (D := D) (ci := 1) (v := .ref qx) (C := RX1) (T := TX1) (N := 6) hx hb hts in_X1 hown hK hP 0 rfl rfl 2 (by decide) (hts _ q150) (fun _ h9 => h9) rfl dX1_invert_56 ?_
        refine lv_aload_n hx hb dX1_invert_59 rfl (lv_at hl 2 rfl) ?_
        refine va_get (D := D) (ci := 1) (v := .ref qy) (C := RX1) (T := TX1) (N := 6) hx hb hts in_X1 hown hK hP 0 rfl rfl 3 (by decide) (hts _ q151) (fun _ h9 => h9) rfl dX1_invert_60 ?_
        refine cv_V (ci := 1) (n := 2) (As := [.ref qx, .ref qy]) (rest := []) (wr := [ar_ qf cA 20 f1, ar_ qn cA 5 f2, ar_ qz cA 5 f5, ar_ qa cA 5 f6]) (w2 := fun u : (Nat → Int64) => [o1_ h0 qf qn qx qy qz qa, ar_ qf cA 20 f1, ar_ qn cA 5 f2, ar_ qx cA 5 u, ar_ qy cA 5 y1, ar_ qz cA 5 f5, ar_ qa cA 5 f6]) hx hb hml hown hts hK (m1_copy l D cA h0 qf qn qx qy qz qa qx qy f3 y1) (lw_V q224 q226 qs9 q12 q227) (by decide +kernel) rfl ⟨rfl, rfl⟩ ⟨Nat.le_of_ble_eq_true rfl, Nat.le_of_ble_eq_true rfl⟩ ⟨Nat.zero_le _, Nat.zero_le _⟩ hP hD hS hA [0, 3, 4] [1, 2, 5, 6] [4, 0, 1, 5, 6, 2, 3] rfl rfl rfl rfl (by decide) (by decide) (by decide) (by decide) (fun _ => rfl) hl.1 rfl (Nat.le_of_ble_eq_true rfl) dX1_invert_63 (fun x1 H locs h2 hP hD hS => ?_)
        have hP : va_P D wk_Cl [o1_ h0 qf qn qx qy qz qa, ar_ qf cA 20 f1, ar_ qn cA 5 f2, ar_ qx cA 5 x1, ar_ qy cA 5 y1, ar_ qz cA 5 f5, ar_ qa cA 5 f6] H := hP
        have hD : va_D A [o1_ h0 qf qn qx qy qz qa, ar_ qf cA 20 f1, ar_ qn cA 5 f2, ar_ qx cA 5 x1, ar_ qy cA 5 y1, ar_ qz cA 5 f5, ar_ qa cA 5 f6] := hD
        have ht0 : rp_ x1 (gf_T (v (rg_ p1)) 1) := by rw [gf_T_1]; exact rp_congr hy h2
        refine lv_iconst (v := nI 2) hx hb dX1_invert_66 (by decide) ?_
        refine lv_istore (lv' := [(4, .int (nI 2)), (3, .int (nI (sm_ y1 5))), (0, .ref h0), (1, .int p0), (2, .int p1)]) hx hb dX1_invert_67 hl (by decide) rfl (fun ls hl => ?_)
        have l2 : ∀ (n i : Nat) (fx fz : Nat → Int64), i + n = 281 → rp_ fx (gf_T (v (rg_ p1)) (i + 1)) → ∀ (H : Heap) (locs : List Loc) (ls : Array Slot), va_P D wk_Cl [o1_ h0 qf qn qx qy qz qa, ar_ qf cA 20 f1, ar_ qn cA 5 f2, ar_ qx cA 5 fx, ar_ qy cA 5 y1, ar_ qz cA 5 fz, ar_ qa cA 5 f6] H → va_D A [o1_ h0 qf qn qx qy qz qa, ar_ qf cA 20 f1, ar_ qn cA 5 f2, ar_ qx cA 5 fx, ar_ qy cA 5 y1, ar_ qz cA 5 fz, ar_ qa cA 5 f6] → va_S A s.heap H locs → lv_has ls 5 [(4, .int (nI (i + 2))), (0, .ref h0), (1, .int p0)] → W p l e (rm_ 2 46) s m ([.ref h0, .int p0, .int p1] : List Value).toArray below meth c H locs 0 0 Q (F0 m 69 ls []) := by
          intro n
          induction n with
          | zero =>
            intro i fx fz hi ht H locs ls hP hD hS hl
            obtain rfl : i = 281 := by omega
            refine lv_iload hx hb dX1_invert_69 (lv_at hl 0 rfl) ?_
            refine lv_sipush (v := nI 283) hx hb dX1_invert_71 (by decide) ?_
            refine lv_icmp_ge (tgt := 131) hx hb dX1_invert_74 (by decide) (fun _ => ?_) (fun hc => absurd (by decide) hc)
            refine lv_aload_n hx hb dX1_invert_131 rfl (lv_at hl 1 rfl) ?_
            refine lv_aload_n hx hb dX1_invert_132 rfl (lv_at hl 1 rfl) ?_
            refine va_get (D := D) (ci := 1) (v := .ref qx) (C := RX1) (T := TX1) (N := 6) hx hb hts in_X1 hown hK hP 0 rfl rfl 2 (by decide) (hts _ q150) (fun _ h9 => h9) rfl dX1_invert_133 ?_
            refine lv_aload_n hx hb dX1_invert_136 rfl (lv_at hl 1 rfl) ?_
            refine va_get (D := D) (ci := 1) (v := .ref qx) (C := RX1) (T := TX1) (N := 6) hx hb hts in_X1 hown hK hP 0 rfl rfl 2 (by decide) (hts _ q150) (fun _ h9 => h9) rfl dX1_invert_137 ?_
            refine cv_V (ci := 1) (n := 2) (As := [.ref qx, .ref qx]) (rest := []) (wr := [ar_ qf cA 20 f1, ar_ qn cA 5 f2, ar_ qy cA 5 y1, ar_ qa cA 5 f6]) (w2 := fun u : (Nat → Int64) => [o1_ h0 qf qn qx qy qz qa, ar_ qf cA 20 f1, ar_ qn cA 5 f2, ar_ qx cA 5 fx, ar_ qy cA 5 y1, ar_ qz cA 5 u, ar_ qa cA 5 f6]) hx hb hml hown hts hK (m1_times2 l D cA h0 qf qn qx qy qz qa qx fz fx _ ht) (lw_V q209 q211 qs8 q12 q212) (by decide +kernel) rfl ⟨rfl, rfl⟩ ⟨Nat.le_of_ble_eq_true rfl, Nat.le_of_ble_eq_true rfl⟩ ⟨Nat.zero_le _, Nat.zero_le _⟩ hP hD hS hA [0, 5, 3] [1, 2, 4, 6] [4, 0, 1, 6, 2, 5, 3] rfl rfl rfl rfl (by decide) (by decide) (by decide) (by decide) (fun _ => rfl) hl.1 rfl (Nat.le_of_ble_eq_true rfl) dX1_invert_140 (fun z1 H locs h3 hP hD hS => ?_)
            have hP : va_P D wk_Cl [o1_ h0 qf qn qx qy qz qa, ar_ qf cA 20 f1, ar_ qn cA 5 f2, ar_ qx cA 5 fx, ar_ qy cA 5 y1, ar_ qz cA 5 z1, ar_ qa cA 5 f6] H := hP
            have hD : va_D A [o1_ h0 qf qn qx qy qz qa, ar_ qf cA 20 f1, ar_ qn cA 5 f2, ar_ qx cA 5 fx, ar_ qy cA 5 y1, ar_ qz cA 5 z1, ar_ qa cA 5 f6] := hD
            refine lv_aload_n hx hb dX1_invert_143 rfl (lv_at hl 1 rfl) ?_
            refine lv_iload_n hx hb dX1_invert_144 rfl (lv_at hl 2 rfl) ?_
            refine lv_aload_n hx hb dX1_invert_145 rfl (lv_at hl 1 rfl) ?_
            refine va_get (D := D) (ci := 1) (v := .ref qz) (C := RX1) (T := TX1) (N := 6) hx hb hts in_X1 hown hK hP 0 rfl rfl 4 (by decide) (hts _ q152) (fun _ h9 => h9) rfl dX1_invert_146 ?_
            refine cv_V (ci := 1) (n := 2) (As := [.int p0, .ref qz]) (rest := []) (wr := [ar_ qn cA 5 f2, ar_ qx cA 5 fx, ar_ qy cA 5 y1, ar_ qa cA 5 f6]) (w2 := fun u : (Nat → Int64) => [o1_ h0 qf qn qx qy qz qa, ar_ qf cA 20 u, ar_ qn cA 5 f2, ar_ qx cA 5 fx, ar_ qy cA 5 y1, ar_ qz cA 5 z1, ar_ qa cA 5 f6]) hx hb hml hown hts hK (m1_give l D cA h0 qf qn qx qy qz qa qz f1 z1 p0) (lw_V q181 q183 qs6 q12 q184) (by decide +kernel) rfl ⟨rfl, rfl⟩ ⟨Nat.le_of_ble_eq_true rfl, Nat.le_of_ble_eq_true rfl⟩ ⟨Nat.zero_le _, Nat.zero_le _⟩ hP hD hS hA [0, 1, 5] [2, 3, 4, 6] [4, 5, 0, 1, 2, 6, 3] rfl rfl rfl rfl (by decide) (by decide) (by decide) (by decide) (fun _ => rfl) hl.1 rfl (Nat.le_of_ble_eq_true rfl) dX1_invert_149 (fun r1 H locs hs hP hD hS => ?_)
            have hP : va_P D wk_Cl [o1_ h0 qf qn qx qy qz qa, ar_ qf cA 20 r1, ar_ qn cA 5 f2, ar_ qx cA 5 fx, ar_ qy cA 5 y1, ar_ qz cA 5 z1, ar_ qa cA 5 f6] H := hP
            have hD : va_D A [o1_ h0 qf qn qx qy qz qa, ar_ qf cA 20 r1, ar_ qn cA 5 f2, ar_ qx cA 5 fx, ar_ qy cA 5 y1, ar_ qz cA 5 z1, ar_ qa cA 5 f6] := hD
            refine lv_iconst (v := nI 1) hx hb dX1_invert_152 (by decide) ?_
            exact ret _ (r1, f2, fx, y1, z1, f6) _ _ _ _ dX1_invert_153 rfl ⟨by unfold iv_r; rw [if_neg hx0]; rfl, by rw [hs]; unfold iv_v; rw [if_neg hx0]; exact rgs_set hv h3 _, rfl⟩ hP hD hS
          | succ n ih =>
            intro i fx fz hi ht H locs ls hP hD hS hl
            refine lv_iload hx hb dX1_invert_69 (lv_at hl 0 rfl) ?_
            refine lv_sipush (v := nI 283) hx hb dX1_invert_71 (by decide) ?_
            refine lv_icmp_ge (tgt := 131) hx hb dX1_invert_74 (by decide) (fun hc => absurd hc (nI_ge (by omega) (by decide))) (fun _ => ?_)
            refine lv_aload_n hx hb dX1_invert_77 rfl (lv_at hl 1 rfl) ?_
            refine lv_aload_n hx hb dX1_invert_78 rfl (lv_at hl 1 rfl) ?_
            refine va_get (D := D) (ci := 1) (v := .ref qx) (C := RX1) (T := TX1) (N := 6) hx hb hts in_X1 hown hK hP 0 rfl rfl 2 (by decide) (hts _ q150) (fun _ h9 => h9) rfl dX1_invert_79 ?_
            refine lv_aload_n hx hb dX1_invert_82 rfl (lv_at hl 1 rfl) ?_
            refine va_get (D := D) (ci := 1) (v := .ref qx) (C := RX1) (T := TX1) (N := 6) hx hb hts in_X1 hown hK hP 0 rfl rfl 2 (by decide) (hts _ q150) (fun _ h9 => h9) rfl dX1_invert_83 ?_
            refine cv_V (ci := 1) (n := 2) (As := [.ref qx, .ref qx]) (rest := []) (wr := [ar_ qf cA 20 f1, ar_ qn cA 5 f2, ar_ qy cA 5 y1, ar_ qa cA 5 f6]) (w2 := fun u : (Nat → Int64) => [o1_ h0 qf qn qx qy qz qa, ar_ qf cA 20 f1, ar_ qn cA 5 f2, ar_ qx cA 5 fx, ar_ qy cA 5 y1, ar_ qz cA 5 u, ar_ qa cA 5 f6]) hx hb hml hown hts hK (m1_times2 l D cA h0 qf qn qx qy qz qa qx fz fx _ ht) (lw_V q209 q211 qs8 q12 q212) (by decide +kernel) rfl ⟨rfl, rfl⟩ ⟨Nat.le_of_ble_eq_true rfl, Nat.le_of_ble_eq_true rfl⟩ ⟨Nat.zero_le _, Nat.zero_le _⟩ hP hD hS hA [0, 5, 3] [1, 2, 4, 6] [4, 0, 1, 6, 2, 5, 3] rfl rfl rfl rfl (by decide) (by decide) (by decide) (by decide) (fun _ => rfl) hl.1 rfl (Nat.le_of_ble_eq_true rfl) dX1_invert_86 (fun z1 H locs h3 hP hD hS => ?_)
            have hP : va_P D wk_Cl [o1_ h0 qf qn qx qy qz qa, ar_ qf cA 20 f1, ar_ qn cA 5 f2, ar_ qx cA 5 fx, ar_ qy cA 5 y1, ar_ qz cA 5 z1, ar_ qa cA 5 f6] H := hP
            have hD : va_D A [o1_ h0 qf qn qx qy qz qa, ar_ qf cA 20 f1, ar_ qn cA 5 f2, ar_ qx cA 5 fx, ar_ qy cA 5 y1, ar_ qz cA 5 z1, ar_ qa cA 5 f6] := hD
            refine lv_aload_n hx hb dX1_invert_89 rfl (lv_at hl 1 rfl) ?_
            refine lv_aload_n hx hb dX1_invert_90 rfl (lv_at hl 1 rfl) ?_
            refine va_get (D := D) (ci := 1) (v := .ref qx) (C := RX1) (T := TX1) (N := 6) hx hb hts in_X1 hown hK hP 0 rfl rfl 2 (by decide) (hts _ q150) (fun _ h9 => h9) rfl dX1_invert_91 ?_
            refine lv_aload_n hx hb dX1_invert_94 rfl (lv_at hl 1 rfl) ?_
            refine va_get (D := D) (ci := 1) (v := .ref qz) (C := RX1) (T := TX1) (N := 6) hx hb hts in_X1 hown hK hP 0 rfl rfl 4 (by decide) (hts _ q152) (fun _ h9 => h9) rfl dX1_invert_95 ?_
            refine cv_V (ci := 1) (n := 2) (As := [.ref qx, .ref qz]) (rest := []) (wr := [ar_ qf cA 20 f1, ar_ qn cA 5 f2, ar_ qy cA 5 y1, ar_ qa cA 5 f6]) (w2 := fun u : (Nat → Int64) => [o1_ h0 qf qn qx qy qz qa, ar_ qf cA 20 f1, ar_ qn cA 5 f2, ar_ qx cA 5 u, ar_ qy cA 5 y1, ar_ qz cA 5 z1, ar_ qa cA 5 f6]) hx hb hml hown hts hK (m1_copy l D cA h0 qf qn qx qy qz qa qx qz fx z1) (lw_V q224 q226 qs9 q12 q227) (by decide +kernel) rfl ⟨rfl, rfl⟩ ⟨Nat.le_of_ble_eq_true rfl, Nat.le_of_ble_eq_true rfl⟩ ⟨Nat.zero_le _, Nat.zero_le _⟩ hP hD hS hA [0, 3, 5] [1, 2, 4, 6] [4, 0, 1, 5, 2, 6, 3] rfl rfl rfl rfl (by decide) (by decide) (by decide) (by decide) (fun _ => rfl) hl.1 rfl (Nat.le_of_ble_eq_true rfl) dX1_invert_98 (fun x2 H locs h4 hP hD hS => ?_)
            have hP : va_P D wk_Cl [o1_ h0 qf qn qx qy qz qa, ar_ qf cA 20 f1, ar_ qn cA 5 f2, ar_ qx cA 5 x2, ar_ qy cA 5 y1, ar_ qz cA 5 z1, ar_ qa cA 5 f6] H := hP
            have hD : va_D A [o1_ h0 qf qn qx qy qz qa, ar_ qf cA 20 f1, ar_ qn cA 5 f2, ar_ qx cA 5 x2, ar_ qy cA 5 y1, ar_ qz cA 5 z1, ar_ qa cA 5 f6] := hD
            refine lv_aload_n hx hb dX1_invert_101 rfl (lv_at hl 1 rfl) ?_
            refine lv_aload_n hx hb dX1_invert_102 rfl (lv_at hl 1 rfl) ?_
            refine va_get (D := D) (ci := 1) (v := .ref qx) (C := RX1) (T := TX1) (N := 6) hx hb hts in_X1 hown hK hP 0 rfl rfl 2 (by decide) (hts _ q150) (fun _ h9 => h9) rfl dX1_invert_103 ?_
            refine lv_aload_n hx hb dX1_invert_106 rfl (lv_at hl 1 rfl) ?_
            refine va_get (D := D) (ci := 1) (v := .ref qy) (C := RX1) (T := TX1) (N := 6) hx hb hts in_X1 hown hK hP 0 rfl rfl 3 (by decide) (hts _ q151) (fun _ h9 => h9) rfl dX1_invert_107 ?_
            refine cv_V (ci := 1) (n := 2) (As := [.ref qx, .ref qy]) (rest := []) (wr := [ar_ qf cA 20 f1, ar_ qn cA 5 f2, ar_ qa cA 5 f6]) (w2 := fun u : (Nat → Int64) => [o1_ h0 qf qn qx qy qz qa, ar_ qf cA 20 f1, ar_ qn cA 5 f2, ar_ qx cA 5 x2, ar_ qy cA 5 y1, ar_ qz cA 5 u, ar_ qa cA 5 f6]) hx hb hml hown hts hK (m1_times l D cA h0 qf qn qx qy qz qa qx qy z1 x2 y1 _ _ (rp_congr h3 h4) hy) (lw_V q209 q211 qs8 q12 q212) (by decide +kernel) rfl ⟨rfl, rfl⟩ ⟨Nat.le_of_ble_eq_true rfl, Nat.le_of_ble_eq_true rfl⟩ ⟨Nat.zero_le _, Nat.zero_le _⟩ hP hD hS hA [0, 5, 3, 4] [1, 2, 6] [3, 0, 1, 5, 6, 4, 2] rfl rfl rfl rfl (by decide) (by decide) (by decide) (by decide) (fun _ => rfl) hl.1 rfl (Nat.le_of_ble_eq_true rfl) dX1_invert_110 (fun z2 H locs h5 hP hD hS => ?_)
            have hP : va_P D wk_Cl [o1_ h0 qf qn qx qy qz qa, ar_ qf cA 20 f1, ar_ qn cA 5 f2, ar_ qx cA 5 x2, ar_ qy cA 5 y1, ar_ qz cA 5 z2, ar_ qa cA 5 f6] H := hP
            have hD : va_D A [o1_ h0 qf qn qx qy qz qa, ar_ qf cA 20 f1, ar_ qn cA 5 f2, ar_ qx cA 5 x2, ar_ qy cA 5 y1, ar_ qz cA 5 z2, ar_ qa cA 5 f6] := hD
            refine lv_aload_n hx hb dX1_invert_113 rfl (lv_at hl 1 rfl) ?_
            refine lv_aload_n hx hb dX1_invert_114 rfl (lv_at hl 1 rfl) ?_
            refine va_get (D := D) (ci := 1) (v := .ref qx) (C := RX1) (T := TX1) (N := 6) hx hb hts in_X1 hown hK hP 0 rfl rfl 2 (by decide) (hts _ q150) (fun _ h9 => h9) rfl dX1_invert_115 ?_
            refine lv_aload_n hx hb dX1_invert_118 rfl (lv_at hl 1 rfl) ?_
            refine va_get (D := D) (ci := 1) (v := .ref qz) (C := RX1) (T := TX1) (N := 6) hx hb hts in_X1 hown hK hP 0 rfl rfl 4 (by decide) (hts _ q152) (fun _ h9 => h9) rfl dX1_invert_119 ?_
            refine cv_V (ci := 1) (n := 2) (As := [.ref qx, .ref qz]) (rest := []) (wr := [ar_ qf cA 20 f1, ar_ qn cA 5 f2, ar_ qy cA 5 y1, ar_ qa cA 5 f6]) (w2 := fun u : (Nat → Int64) => [o1_ h0 qf qn qx qy qz qa, ar_ qf cA 20 f1, ar_ qn cA 5 f2, ar_ qx cA 5 u, ar_ qy cA 5 y1, ar_ qz cA 5 z2, ar_ qa cA 5 f6]) hx hb hml hown hts hK (m1_copy l D cA h0 qf qn qx qy qz qa qx qz x2 z2) (lw_V q224 q226 qs9 q12 q227) (by decide +kernel) rfl ⟨rfl, rfl⟩ ⟨Nat.le_of_ble_eq_true rfl, Nat.le_of_ble_eq_true rfl⟩ ⟨Nat.zero_le _, Nat.zero_le _⟩ hP hD hS hA [0, 3, 5] [1, 2, 4, 6] [4, 0, 1, 5, 2, 6, 3] rfl rfl rfl rfl (by decide) (by decide) (by decide) (by decide) (fun _ => rfl) hl.1 rfl (Nat.le_of_ble_eq_true rfl) dX1_invert_122 (fun x3 H locs h6 hP hD hS => ?_)
            have hP : va_P D wk_Cl [o1_ h0 qf qn qx qy qz qa, ar_ qf cA 20 f1, ar_ qn cA 5 f2, ar_ qx cA 5 x3, ar_ qy cA 5 y1, ar_ qz cA 5 z2, ar_ qa cA 5 f6] H := hP
            have hD : va_D A [o1_ h0 qf qn qx qy qz qa, ar_ qf cA 20 f1, ar_ qn cA 5 f2, ar_ qx cA 5 x3, ar_ qy cA 5 y1, ar_ qz cA 5 z2, ar_ qa cA 5 f6] := hD
            refine lv_iinc (v := nI (i + 2 + 1)) (lv' := [(4, .int (nI (i + 2 + 1))), (0, .ref h0), (1, .int p0)]) hx hb dX1_invert_125 hl (k := 0) rfl (ii_1 _) (by decide) rfl (fun ls hl => ?_)
            refine lv_goto (tgt := 69) hx hb dX1_invert_128 (by decide) ?_
            exact ih (i + 1) x3 z2 (by omega) (rp_congr h5 h6) _ _ _ hP hD hS (lv_sub hl [0, 1, 2] rfl)
        exact l2 281 0 x1 f5 rfl ht0 _ _ _ hP hD hS (lv_sub hl [0, 2, 3] rfl)
      · refine lv_iconst (v := nI 0) hx hb dX1_invert_52 (by decide) ?_
        have hx0 : (v (rg_ p1)) = 0#283 := (sm_rp hy).mp ((sm_i y1 5).mp hc)
        exact ret _ (f1, f2, f3, y1, f5, f6) _ _ _ _ dX1_invert_53 rfl ⟨by unfold iv_r; rw [if_pos hx0]; rfl, by unfold iv_v; rw [if_pos hx0]; exact hv, rfl⟩ hP hD hS
    | succ n ih =>
      intro k hk H locs ls hP hD hS hl
      have h5 : k < 5 := by omega
      refine lv_iload hx hb dX1_invert_14 (lv_at hl 0 rfl) ?_
      refine lv_iconst (v := nI 5) hx hb dX1_invert_16 (by decide) ?_
      refine lv_icmp_ge (tgt := 48) hx hb dX1_invert_17 (by decide) (fun hc => absurd hc (lq k h5)) (fun _ => ?_)
      refine lv_iload_n hx hb dX1_invert_20 rfl (lv_at hl 1 rfl) ?_
      refine lv_if_ne (tgt := 36) hx hb dX1_invert_21 (by decide) (fun hc => ?_) (fun hc => ?_)
      · refine lv_iconst (v := nI 1) hx hb dX1_invert_36 (by decide) ?_
        refine lv_goto (tgt := 41) hx hb dX1_invert_37 (by decide) ?_
        refine ti_ (nI (sm_ y1 (k + 1))) (sm_a hc) ?_
        refine lv_istore_n (lv' := [(3, .int (nI (sm_ y1 (k + 1)))), (4, .int (nI k)), (0, .ref h0), (1, .int p0), (2, .int p1)]) hx hb dX1_invert_41 rfl hl (by decide) rfl (fun ls hl => ?_)
        refine lv_iinc (v := nI (k + 1)) (lv' := [(4, .int (nI (k + 1))), (3, .int (nI (sm_ y1 (k + 1)))), (0, .ref h0), (1, .int p0), (2, .int p1)]) hx hb dX1_invert_42 hl (k := 1) rfl (ii_1 _) (by decide) rfl (fun ls hl => ?_)
        refine lv_goto (tgt := 14) hx hb dX1_invert_45 (by decide) ?_
        exact ih (k + 1) (by omega) _ _ _ hP hD hS (lv_sub hl [0, 1, 2, 3, 4] rfl)
      · refine lv_aload_n hx hb dX1_invert_24 rfl (lv_at hl 2 rfl) ?_
        refine va_get (D := D) (ci := 1) (v := .ref qy) (C := RX1) (T := TX1) (N := 6) hx hb hts in_X1 hown hK hP 0 rfl rfl 3 (by decide) (hts _ q151) (fun _ h9 => h9) rfl dX1_invert_25 ?_
        refine lv_iload hx hb dX1_invert_28 (lv_at hl 0 rfl) ?_
        refine la_ (v := y1 k) hx hb hK hP 4 rfl k rfl (by omega) (by decide) rfl dX1_invert_30 ?_
        refine lv_lconst (v := 0) hx hb dX1_invert_31 (by decide) ?_
        refine W.lcmp hx hb dX1_invert_32 ?_
        refine lv_if_eq (tgt := 40) hx hb dX1_invert_33 (by decide) (fun hd => ?_) (fun hd => ?_)
        · refine lv_iconst (v := nI 0) hx hb dX1_invert_40 (by decide) ?_
          refine ti_ (nI (sm_ y1 (k + 1))) (sm_c hc hd) ?_
          refine lv_istore_n (lv' := [(3, .int (nI (sm_ y1 (k + 1)))), (4, .int (nI k)), (0, .ref h0), (1, .int p0), (2, .int p1)]) hx hb dX1_invert_41 rfl hl (by decide) rfl (fun ls hl => ?_)
          refine lv_iinc (v := nI (k + 1)) (lv' := [(4, .int (nI (k + 1))), (3, .int (nI (sm_ y1 (k + 1)))), (0, .ref h0), (1, .int p0), (2, .int p1)]) hx hb dX1_invert_42 hl (k := 1) rfl (ii_1 _) (by decide) rfl (fun ls hl => ?_)
          refine lv_goto (tgt := 14) hx hb dX1_invert_45 (by decide) ?_
          exact ih (k + 1) (by omega) _ _ _ hP hD hS (lv_sub hl [0, 1, 2, 3, 4] rfl)
        · refine lv_iconst (v := nI 1) hx hb dX1_invert_36 (by decide) ?_
          refine lv_goto (tgt := 41) hx hb dX1_invert_37 (by decide) ?_
          refine ti_ (nI (sm_ y1 (k + 1))) (sm_b hd) ?_
          refine lv_istore_n (lv' := [(3, .int (nI (sm_ y1 (k + 1)))), (4, .int (nI k)), (0, .ref h0), (1, .int p0), (2, .int p1)]) hx hb dX1_invert_41 rfl hl (by decide) rfl (fun ls hl => ?_)
          refine lv_iinc (v := nI (k + 1)) (lv' := [(4, .int (nI (k + 1))), (3, .int (nI (sm_ y1 (k + 1)))), (0, .ref h0), (1, .int p0), (2, .int p1)]) hx hb dX1_invert_42 hl (k := 1) rfl (ii_1 _) (by decide) rfl (fun ls hl => ?_)
          refine lv_goto (tgt := 14) hx hb dX1_invert_45 (by decide) ?_
          exact ih (k + 1) (by omega) _ _ _ hP hD hS (lv_sub hl [0, 1, 2, 3, 4] rfl)
  exact lp 5 0 rfl _ _ _ hP hD hS (lv_sub hl [0, 1, 2, 3, 4] rfl)
end
section
/-! CONSTRUCTORS: contracts that make cells; calls of them -/
def PreC_ (D : va_G) (sz : Nat) (ws : va_W) (U : State) : Prop := U.heap.size = sz ∧ va_P D wk_Cl ws U.heap ∧ va_K D wk_Cl [] U ∧ va_D (fun _ => True) ws
def MetC_ {S : Type} (l : Launch) (y : MethodName) (c : ByteArray) (nL : Nat) (rm : Room) (D : va_G) (h0 : Nat) (ws : va_W) (post : S → Prop) (cf : S → ClassId) (w1 : S → va_W) (mc ms : Nat) : Prop :=
  ∀ sz, Met l y (ws_ y c nL none) rm (va_Pc [.ref h0] (PreC_ D sz ws)) (va_Qv post (fun u t => Bk_ D (cf u) (va_A ws sz) (w1 u) t) (va_A ws sz)) mc ms (va_A ws sz)
theorem metC_of {l : Launch} {y : MethodName} {cc : ByteArray} {nL : Nat} {rm : Room} {D : va_G} {h0 : Nat} {ws : va_W} {S : Type} {post : S → Prop} {cf : S → ClassId} {w1 : S → va_W} {mc ms : Nat} (hy : plainName y.cls = true) (hyn : y.name = "<init>") (hn : (lg_sl [.ref h0]).length ≤ nL)
    (body : ∀ (p : Program) (e : Env) (s : State) (m : MethodId) (below : List Frame) (meth : Method) (c : Code) (A : Nat → Prop) (Q : State → Prop), p.tables.exec = Jvm.exec → c.code = cc → c.maxLocals = nL → s.vm.findClass y.cls = some m.cls → (∀ w ∈ lw_all, w.before ([.ref h0] : List Value).toArray s = true) → va_K D wk_Cl [] s → (∀ q : Nat, s.heap.size ≤ q → A q) → meth.name = "<init>" →
      (∀ (u : S) (H : Heap) (locs : List Loc) (ls : Array Slot) (pc : Nat), decode cc pc = .ok (.return_, 1) → post u → va_K D wk_Cl [(cf u, .long)] s → va_P D wk_Cl (w1 u) H → va_D A (w1 u) → va_S A s.heap H locs → W p l e rm s m ([.ref h0] : List Value).toArray below meth c H locs mc ms Q (F0 m pc ls [])) →
      ∀ ls : Array Slot, va_P D wk_Cl ws s.heap → va_D A ws → lv_has ls nL (lv_args 0 [.ref h0]) → W p l e rm s m ([.ref h0] : List Value).toArray below meth c s.heap [] 0 0 Q (F0 m 0 ls [])) : MetC_ l y cc nL rm D h0 ws post cf w1 mc ms := by
  intro sz
  refine Met.ofW (cc := cc) (maxL := nL) (ret := none) hy rfl ?_
  intro p e s m args below meth c s₁ B hml hv
  obtain ⟨rfl, hsz, hP, hK, hD0⟩ := hv
  have hts := atoms_spec (ws := ws_ y cc nL none) B.pre
  have hts : ∀ w ∈ lw_all, w.before _ s = true := fun w h => hts w (List.mem_cons_of_mem _ h)
  subst hsz
  have hD := hD0.self (sz := s.heap.size)
  have hr := B.returns
  have hlocks := B.notSynchronized
  have hin : meth.name = "<init>" := (name_of_methodNamed B.named B.method).1.trans hyn
  rw [lg_entry_eq]
  refine body p e s m below meth c (va_A ws s.heap.size) _ B.exec B.bytes hml (findClass_of_methodNamed B.named) hts hK (fun q h => Or.inr h) hin (fun u H locs ls pc hd hu hK' hP' hD' hS => ?_) _ hP hD (lv_entry _ hn)
  exact W.vret B.exec B.bytes hr (fun t ht hW => ⟨⟨u, rfl, hu, by rw [ht]; exact hP', va_K.moved hW.alike hK', hD'⟩, hS.F ht⟩) hS.2.2 hd
theorem wk_cA {D : va_G} {cA cB : ClassId} {s : State} (h : va_K D wk_Cl [(cA, .long)] s) (h2 : va_K D wk_Cl [(cB, .long)] s) : cB = cA := Option.some.inj ((h2.2 0 _ rfl).2.symm.trans (h.2 0 _ rfl).2)
theorem wk_cell (N : Nat) (cA : ClassId) : vp_cell cA (N, .inr (.inl (fun _ => 0))) = arrV cA N (fun _ => defaultValue .long) := rfl
section WN
variable {p : Program} {l : Launch} {e : Env} {R : Room} {s : State} {m : MethodId} {args : Array Value} {below : List Frame} {meth : Method} {c : Code} {H : Heap} {locs : List Loc} {cells slots : Nat} {Q : State → Prop}
variable {cc : ByteArray} {pc : Nat} {ls : Array Slot} {rest : List Value} {D : va_G} {A : Nat → Prop} {cA : ClassId} {ws : va_W} {H0 : Heap}
/-- newarray long, the first one: its class gets a name -/
theorem na_1 (hx : p.tables.exec = Jvm.exec) (hb : c.code = cc) (hts : ∀ w ∈ lw_all, w.before args s = true) (hK : va_K D wk_Cl [] s) (hP : va_P D wk_Cl ws H) (hD : va_D A ws) (hS : va_S A H0 H locs) (hA : ∀ q, H0.size ≤ q → A q) (N k n : Nat) (hN : N < 1000) (hk : cells + 1 ≤ k) (hn : slots + N ≤ n) (hk2 : k ≤ R.cells) (hn2 : n ≤ R.slots) (hdg : decode cc pc = .ok (.newarray .long, 2))
    (kk : ∀ (q : Nat) (cA : ClassId) (H1 : Heap), va_K D wk_Cl [(cA, .long)] s → va_P D wk_Cl (ws ++ [ar_ q cA N (fun _ => 0)]) H1 → va_D A (ws ++ [ar_ q cA N (fun _ => 0)]) → va_S A H0 H1 locs → W p l e R s m args below meth c H1 locs k n Q (F0 m (pc + 2) ls (.ref q :: rest))) : W p l e R s m args below meth c H locs cells slots Q (F0 m pc ls (.int (nI N) :: rest)) := by
  refine va_newa hx hb (atype := .long) (ty := .long) (hts _ q62) rfl hK hP hD hS hA (wk_cell N) (nI_pos (by omega)) (nI_clamp (by omega)) ?_ (Nat.le_trans hk hk2) (Nat.le_trans hn hn2) hdg (fun q cA H1 hK1 hP1 hD1 hS1 => ?_)
  · show N * 8 ≤ 536870912
    omega
  · exact W.widen hk hn (kk q cA H1 hK1 hP1 hD1 hS1)
/-- newarray long, a further one: of the same class -/
theorem na_2 (hx : p.tables.exec = Jvm.exec) (hb : c.code = cc) (hts : ∀ w ∈ lw_all, w.before args s = true) (hK : va_K D wk_Cl [(cA, .long)] s) (hP : va_P D wk_Cl ws H) (hD : va_D A ws) (hS : va_S A H0 H locs) (hA : ∀ q, H0.size ≤ q → A q) (N k n : Nat) (hN : N < 1000) (hk : cells + 1 ≤ k) (hn : slots + N ≤ n) (hk2 : k ≤ R.cells) (hn2 : n ≤ R.slots) (hdg : decode cc pc = .ok (.newarray .long, 2))
    (kk : ∀ (q : Nat) (H1 : Heap), va_P D wk_Cl (ws ++ [ar_ q cA N (fun _ => 0)]) H1 → va_D A (ws ++ [ar_ q cA N (fun _ => 0)]) → va_S A H0 H1 locs → W p l e R s m args below meth c H1 locs k n Q (F0 m (pc + 2) ls (.ref q :: rest))) : W p l e R s m args below meth c H locs cells slots Q (F0 m pc ls (.int (nI N) :: rest)) := by
  refine na_1 hx hb hts (hK.sub [] rfl) hP hD hS hA N k n hN hk hn hk2 hn2 hdg (fun q cB H1 hK1 hP1 hD1 hS1 => ?_)
  obtain rfl := wk_cA hK hK1
  exact kk q H1 hP1 hD1 hS1
variable {wc wr : va_W} {S : Type} {w1 w2 : S → va_W} {cf : S → ClassId} {y : MethodName} {bytes : ByteArray} {maxL nL index mc ms : Nat} {rm : Room} {own : String} {b : Addr} {st0 : List Value} {tys : List (ClassId × FieldType)}
/-- a call of a constructor without arguments -/
theorem cv_C {post : S → Prop} (hx : p.tables.exec = Jvm.exec) (hb : c.code = cc) (hml : c.maxLocals = nL) (hown : s.vm.findClass own = some m.cls) (hts : ∀ w ∈ lw_all, w.before args s = true) (hK : va_K D wk_Cl tys s)
    (hM : MetC_ l y bytes maxL rm D b wc post cf w1 mc ms) (hcode : Cond.code y bytes maxL none ∈ lw_all) (hini : Cond.initialized y.cls ∈ lw_all) (hlk : Cond.methodLink own index y ∈ lw_all) (hins : Cond.instanceMethod y ∈ lw_all) (hyn : y.name = "<init>") (hd : y.cls ≠ "java/lang/invoke/MethodHandle" ∧ y.cls ≠ "java/lang/invoke/VarHandle" ∧ (parseMethodDescriptor y.desc).map (fun d => d.parameters.length) = some 0)
    (hr0 : rm.cells = mc ∧ rm.slots = ms) (hR1 : rm.frames + 1 ≤ R.frames ∧ 8 + (maxL + 11) + rm.locals ≤ R.locals) (hcs : cells + mc ≤ R.cells ∧ slots + ms ≤ R.slots)
    (hP : va_P D wk_Cl ws H) (hD : va_D A ws) (hS : va_S A H0 H locs) (hA : ∀ q, H0.size ≤ q → A q) (isC isR js : List Nat)
    (hC : isC.map (fun i => ws[i]?) = wc.map some) (hR : isR.map (fun i => ws[i]?) = wr.map some) (hnc : va_nd isC = true) (hn : va_nd isR = true) (hdis : ∀ i ∈ isR, i ∉ isC) (hj : va_nd js = true) (hj2 : ∀ u, js.map (fun i => (wr ++ w1 u)[i]?) = (w2 u).map some)
    (hsize : ls.size = nL) (hstack : st0 = .ref b :: rest) (hst : (rest.map fun v => v.category).sum ≤ 8) (hdg : decode cc pc = .ok (.invokespecial index, 3))
    (kk : ∀ (u : S) (H1 : Heap) (locs1 : List Loc), post u → va_K D wk_Cl [(cf u, .long)] s → va_P D wk_Cl (w2 u) H1 → va_D A (w2 u) → va_S A H0 H1 locs1 → W p l e R s m args below meth c H1 locs1 (cells + mc) (slots + ms) Q (F0 m (pc + 3) ls rest)) : W p l e R s m args below meth c H locs cells slots Q (F0 m pc ls st0) := by
  have hFc := va_free (wc := wc) hD hS hA isC hC
  have hK0 : va_K D wk_Cl [] s := hK.sub [] rfl
  have hr := va_runI (g := F0 m pc ls st0) (locs := locs) (l := l) (e := e) (below := below) (meth := meth) (cells := cells) (slots := slots) (As := []) (rest := rest) (b := b) ⟨hx, hb, hml, hown, hts⟩ (hM H.size) (cwI 0 hts (lw_meth hcode) rfl hr0.1 hr0.2 (hts _ hini) (hts _ hlk) (hts _ hins) hyn hd hR1) ⟨fun a U g mk q => by
      obtain ⟨q0, q1, qP, qK, qD⟩ := q
      exact ⟨q0, q1, qP, va_K.moved (u := U) (U := U.calling g mk a) (Vm.Alike.refl U.vm) qK, qD⟩, fun U hU hW => ⟨rfl, by rw [hU], by rw [hU]; exact hP.sub isC (wk_fm hC), va_K.moved hW.alike hK0, (hD.sub isC hnc hC).weaken (fun _ _ _ _ => trivial)⟩⟩ rfl rfl hsize hstack (lv_room hst) hdg hcs
  refine va_callv hr hS (fun q _ h => hFc q h) hFc (fun u t H1 locs1 ht hvm hw hB hz1 hk1 hS1 => ?_)
  obtain ⟨hP1, hK1, hD1⟩ := hB
  rw [ht] at hP1
  obtain ⟨hP2, hD2⟩ := va_join hP hD isC isR hC hR hn hdis hk1 hFc hP1 hD1
  exact kk u H1 locs1 hw (va_K.moved hvm.symm hK1) (hP2.sub js (wk_fm (hj2 u))) (hD2.sub js hj (hj2 u)) hS1
/-- an int of the script at a natural index -/
theorem sa_ (hx : p.tables.exec = Jvm.exec) (hb : c.code = cc) {b L : Nat} {xs : Nat → Int32} (hX : va_X b L xs s H0) (hbl : b < H0.size) (hbA : ¬ A b) (hS : va_S A H0 H locs) {i : Int32} (E : Nat) (hi : i = nI E) (hE : E < L) (hL : L < 2 ^ 31) (hdg : decode cc pc = .ok (.iaload, 1))
    (kk : W p l e R s m args below meth c H locs cells slots Q (F0 m (pc + 1) ls (.int (xs E) :: rest))) : W p l e R s m args below meth c H locs cells slots Q (F0 m pc ls (.int i :: .ref b :: rest)) := by
  subst hi
  refine va_sld hx hb hX hbl hbA hS (vp_in_nI hE hL) hdg ?_
  rw [nI_clamp (Nat.lt_trans hE hL)]
  exact kk
end WN
end
section
theorem rp_2 : rp_ (vp_updL (fun _ => 0) 0 2) (gf_x 1#283) := by
  unfold rp_
  decide +kernel
set_option maxHeartbeats 4000000 in
set_option maxRecDepth 100000 in
/-- Field283(): the root of x -/
theorem m0_init (l : Launch) (D : va_G) (h0 : Nat) : MetC_ l yX0_init cX0_init 2 ({ frames := 2, cells := 7, slots := 55, locals := 44 } : Room) D h0 [(h0, .inr (0, [.null, .null, .null, .null, .null, .null, .null]))] (fun (u : ClassId × (Nat × Nat × Nat × Nat × Nat × Nat × Nat) × ((Nat → Int64) × (Nat → Int64) × (Nat → Int64) × (Nat → Int64) × (Nat → Int64) × (Nat → Int64) × (Nat → Int64))) => (∀ j, u.2.2.1 j = 0) ∧ u.2.2.2.1 = (fun _ => 0) ∧ rp_ u.2.2.2.2.2.2.2.2 gf_root) (fun u => u.1) (fun u => [o0_ h0 u.2.1.1 u.2.1.2.1 u.2.1.2.2.1 u.2.1.2.2.2.1 u.2.1.2.2.2.2.1 u.2.1.2.2.2.2.2.1 u.2.1.2.2.2.2.2.2, ar_ u.2.1.1 u.1 20 u.2.2.1, ar_ u.2.1.2.1 u.1 5 u.2.2.2.1, ar_ u.2.1.2.2.1 u.1 10 u.2.2.2.2.1, ar_ u.2.1.2.2.2.1 u.1 5 u.2.2.2.2.2.1, ar_ u.2.1.2.2.2.2.1 u.1 5 u.2.2.2.2.2.2.1, ar_ u.2.1.2.2.2.2.2.1 u.1 5 u.2.2.2.2.2.2.2.1, ar_ u.2.1.2.2.2.2.2.2 u.1 5 u.2.2.2.2.2.2.2.2]) 7 55 := by
  refine metC_of (by decide) rfl (Nat.le_of_ble_eq_true rfl) ?_
  intro p e s m below meth c A Q hx hb hml hown hts hK hA hin ret ls hP hD hl
  have hown : s.vm.findClass "Field283" = some m.cls := hown
  have hS : va_S A s.heap s.heap [] := va_S.rf
  have hl : lv_has ls 2 [(0, .ref h0)] := hl
  refine lv_aload_n hx hb dX0_init_0 rfl (lv_at hl 0 rfl) ?_
  refine W.objInit hx hb hown (hts _ q18) (hts _ q19) (hts _ q20) rfl (by rw [hml]; exact hl.1) rfl dX0_init_1 (Nat.le_of_ble_eq_true rfl) (Nat.le_of_ble_eq_true rfl) ?_
  refine W.eq (g2 := F0 m 4 ls []) rfl ?_
  refine lv_aload_n hx hb dX0_init_4 rfl (lv_at hl 0 rfl) ?_
  refine lv_bipush (v := nI 20) hx hb dX0_init_5 (by decide) ?_
  refine na_1 hx hb hts hK hP hD hS hA 20 1 20 (by decide) (by decide) (by decide) (by decide) (by decide) dX0_init_7 (fun qr cA H hK hP hD hS => ?_)
  have hP : va_P D wk_Cl [(h0, .inr (0, [.null, .null, .null, .null, .null, .null, .null])), ar_ qr cA 20 (fun _ => 0)] H := hP
  have hD : va_D A [(h0, .inr (0, [.null, .null, .null, .null, .null, .null, .null])), ar_ qr cA 20 (fun _ => 0)] := hD
  refine va_putF (D := D) (ci := 0) (v := .ref qr) (ty := .array .long) (C := RX0) (T := TX0) (N := 7) hx hb hts in_X0 tyX0 tyX0_ok nmX0 hown hK hP hD hS 0 rfl rfl 0 (by decide) (hts _ q40) (fun _ h9 => h9) rfl hin rfl (by decide +kernel) rfl rfl (Nat.le_of_ble_eq_true rfl) dX0_init_9 (fun H locs hP hD hS => ?_)
  have hP : va_P D wk_Cl [(h0, .inr (0, [.ref qr, .null, .null, .null, .null, .null, .null])), ar_ qr cA 20 (fun _ => 0)] H := hP
  have hD : va_D A [(h0, .inr (0, [.ref qr, .null, .null, .null, .null, .null, .null])), ar_ qr cA 20 (fun _ => 0)] := hD
  refine lv_aload_n hx hb dX0_init_12 rfl (lv_at hl 0 rfl) ?_
  refine lv_iconst (v := nI 5) hx hb dX0_init_13 (by decide) ?_
  refine na_2 hx hb hts hK hP hD hS hA 5 2 25 (by decide) (by decide) (by decide) (by decide) (by decide) dX0_init_14 (fun qn H hP hD hS => ?_)
  have hP : va_P D wk_Cl [(h0, .inr (0, [.ref qr, .null, .null, .null, .null, .null, .null])), ar_ qr cA 20 (fun _ => 0), ar_ qn cA 5 (fun _ => 0)] H := hP
  have hD : va_D A [(h0, .inr (0, [.ref qr, .null, .null, .null, .null, .null, .null])), ar_ qr cA 20 (fun _ => 0), ar_ qn cA 5 (fun _ => 0)] := hD
  refine va_putF (D := D) (ci := 0) (v := .ref qn) (ty := .array .long) (C := RX0) (T := TX0) (N := 7) hx hb hts in_X0 tyX0 tyX0_ok nmX0 hown hK hP hD hS 0 rfl rfl 1 (by decide) (hts _ q41) (fun _ h9 => h9) rfl hin rfl (by decide +kernel) rfl rfl (Nat.le_of_ble_eq_true rfl) dX0_init_16 (fun H locs hP hD hS => ?_)
  have hP : va_P D wk_Cl [(h0, .inr (0, [.ref qr, .ref qn, .null, .null, .null, .null, .null])), ar_ qr cA 20 (fun _ => 0), ar_ qn cA 5 (fun _ => 0)] H := hP
  have hD : va_D A [(h0, .inr (0, [.ref qr, .ref qn, .null, .null, .null, .null, .null])), ar_ qr cA 20 (fun _ => 0), ar_ qn cA 5 (fun _ => 0)] := hD
  refine lv_aload_n hx hb dX0_init_19 rfl (lv_at hl 0 rfl) ?_
  refine lv_bipush (v := nI 10) hx hb dX0_init_20 (by decide) ?_
  refine na_2 hx hb hts hK hP hD hS hA 10 3 35 (by decide) (by decide) (by decide) (by decide) (by decide) dX0_init_22 (fun qw H hP hD hS => ?_)
  have hP : va_P D wk_Cl [(h0, .inr (0, [.ref qr, .ref qn, .null, .null, .null, .null, .null])), ar_ qr cA 20 (fun _ => 0), ar_ qn cA 5 (fun _ => 0), ar_ qw cA 10 (fun _ => 0)] H := hP
  have hD : va_D A [(h0, .inr (0, [.ref qr, .ref qn, .null, .null, .null, .null, .null])), ar_ qr cA 20 (fun _ => 0), ar_ qn cA 5 (fun _ => 0), ar_ qw cA 10 (fun _ => 0)] := hD
  refine va_putF (D := D) (ci := 0) (v := .ref qw) (ty := .array .long) (C := RX0) (T := TX0) (N := 7) hx hb hts in_X0 tyX0 tyX0_ok nmX0 hown hK hP hD hS 0 rfl rfl 2 (by decide) (hts _ q42) (fun _ h9 => h9) rfl hin rfl (by decide +kernel) rfl rfl (Nat.le_of_ble_eq_true rfl) dX0_init_24 (fun H locs hP hD hS => ?_)
  have hP : va_P D wk_Cl [(h0, .inr (0, [.ref qr, .ref qn, .ref qw, .null, .null, .null, .null])), ar_ qr cA 20 (fun _ => 0), ar_ qn cA 5 (fun _ => 0), ar_ qw cA 10 (fun _ => 0)] H := hP
  have hD : va_D A [(h0, .inr (0, [.ref qr, .ref qn, .ref qw, .null, .null, .null, .null])), ar_ qr cA 20 (fun _ => 0), ar_ qn cA 5 (fun _ => 0), ar_ qw cA 10 (fun _ => 0)] := hD
  refine lv_aload_n hx hb dX0_init_27 rfl (lv_at hl 0 rfl) ?_
  refine lv_iconst (v := nI 5) hx hb dX0_init_28 (by decide) ?_
  refine na_2 hx hb hts hK hP hD hS hA 5 4 40 (by decide) (by decide) (by decide) (by decide) (by decide) dX0_init_29 (fun qa H hP hD hS => ?_)
  have hP : va_P D wk_Cl [(h0, .inr (0, [.ref qr, .ref qn, .ref qw, .null, .null, .null, .null])), ar_ qr cA 20 (fun _ => 0), ar_ qn cA 5 (fun _ => 0), ar_ qw cA 10 (fun _ => 0), ar_ qa cA 5 (fun _ => 0)] H := hP
  have hD : va_D A [(h0, .inr (0, [.ref qr, .ref qn, .ref qw, .null, .null, .null, .null])), ar_ qr cA 20 (fun _ => 0), ar_ qn cA 5 (fun _ => 0), ar_ qw cA 10 (fun _ => 0), ar_ qa cA 5 (fun _ => 0)] := hD
  refine va_putF (D := D) (ci := 0) (v := .ref qa) (ty := .array .long) (C := RX0) (T := TX0) (N := 7) hx hb hts in_X0 tyX0 tyX0_ok nmX0 hown hK hP hD hS 0 rfl rfl 3 (by decide) (hts _ q43) (fun _ h9 => h9) rfl hin rfl (by decide +kernel) rfl rfl (Nat.le_of_ble_eq_true rfl) dX0_init_31 (fun H locs hP hD hS => ?_)
  have hP : va_P D wk_Cl [(h0, .inr (0, [.ref qr, .ref qn, .ref qw, .ref qa, .null, .null, .null])), ar_ qr cA 20 (fun _ => 0), ar_ qn cA 5 (fun _ => 0), ar_ qw cA 10 (fun _ => 0), ar_ qa cA 5 (fun _ => 0)] H := hP
  have hD : va_D A [(h0, .inr (0, [.ref qr, .ref qn, .ref qw, .ref qa, .null, .null, .null])), ar_ qr cA 20 (fun _ => 0), ar_ qn cA 5 (fun _ => 0), ar_ qw cA 10 (fun _ => 0), ar_ qa cA 5 (fun _ => 0)] := hD
  refine lv_aload_n hx hb dX0_init_34 rfl (lv_at hl 0 rfl) ?_
  refine lv_iconst (v := nI 5) hx hb dX0_init_35 (by decide) ?_
  refine na_2 hx hb hts hK hP hD hS hA 5 5 45 (by decide) (by decide) (by decide) (by decide) (by decide) dX0_init_36 (fun qb H hP hD hS => ?_)
  have hP : va_P D wk_Cl [(h0, .inr (0, [.ref qr, .ref qn, .ref qw, .ref qa, .null, .null, .null])), ar_ qr cA 20 (fun _ => 0), ar_ qn cA 5 (fun _ => 0), ar_ qw cA 10 (fun _ => 0), ar_ qa cA 5 (fun _ => 0), ar_ qb cA 5 (fun _ => 0)] H := hP
  have hD : va_D A [(h0, .inr (0, [.ref qr, .ref qn, .ref qw, .ref qa, .null, .null, .null])), ar_ qr cA 20 (fun _ => 0), ar_ qn cA 5 (fun _ => 0), ar_ qw cA 10 (fun _ => 0), ar_ qa cA 5 (fun _ => 0), ar_ qb cA 5 (fun _ => 0)] := hD
  refine va_putF (D := D) (ci := 0) (v := .ref qb) (ty := .array .long) (C := RX0) (T := TX0) (N := 7) hx hb hts in_X0 tyX0 tyX0_ok nmX0 hown hK hP hD hS 0 rfl rfl 4 (by decide) (hts _ q44) (fun _ h9 => h9) rfl hin rfl (by decide +kernel) rfl rfl (Nat.le_of_ble_eq_true rfl) dX0_init_38 (fun H locs hP hD hS => ?_)
  have hP : va_P D wk_Cl [(h0, .inr (0, [.ref qr, .ref qn, .ref qw, .ref qa, .ref qb, .null, .null])), ar_ qr cA 20 (fun _ => 0), ar_ qn cA 5 (fun _ => 0), ar_ qw cA 10 (fun _ => 0), ar_ qa cA 5 (fun _ => 0), ar_ qb cA 5 (fun _ => 0)] H := hP
  have hD : va_D A [(h0, .inr (0, [.ref qr, .ref qn, .ref qw, .ref qa, .ref qb, .null, .null])), ar_ qr cA 20 (fun _ => 0), ar_ qn cA 5 (fun _ => 0), ar_ qw cA 10 (fun _ => 0), ar_ qa cA 5 (fun _ => 0), ar_ qb cA 5 (fun _ => 0)] := hD
  refine lv_aload_n hx hb dX0_init_41 rfl (lv_at hl 0 rfl) ?_
  refine lv_iconst (v := nI 5) hx hb dX0_init_42 (by decide) ?_
  refine na_2 hx hb hts hK hP hD hS hA 5 6 50 (by decide) (by decide) (by decide) (by decide) (by decide) dX0_init_43 (fun qc H hP hD hS => ?_)
  have hP : va_P D wk_Cl [(h0, .inr (0, [.ref qr, .ref qn, .ref qw, .ref qa, .ref qb, .null, .null])), ar_ qr cA 20 (fun _ => 0), ar_ qn cA 5 (fun _ => 0), ar_ qw cA 10 (fun _ => 0), ar_ qa cA 5 (fun _ => 0), ar_ qb cA 5 (fun _ => 0), ar_ qc cA 5 (fun _ => 0)] H := hP
  have hD : va_D A [(h0, .inr (0, [.ref qr, .ref qn, .ref qw, .ref qa, .ref qb, .null, .null])), ar_ qr cA 20 (fun _ => 0), ar_ qn cA 5 (fun _ => 0), ar_ qw cA 10 (fun _ => 0), ar_ qa cA 5 (fun _ => 0), ar_ qb cA 5 (fun _ => 0), ar_ qc cA 5 (fun _ => 0)] := hD
  refine va_putF (D := D) (ci := 0) (v := .ref qc) (ty := .array .long) (C := RX0) (T := TX0) (N := 7) hx hb hts in_X0 tyX0 tyX0_ok nmX0 hown hK hP hD hS 0 rfl rfl 5 (by decide) (hts _ q45) (fun _ h9 => h9) rfl hin rfl (by decide +kernel) rfl rfl (Nat.le_of_ble_eq_true rfl) dX0_init_45 (fun H locs hP hD hS => ?_)
  have hP : va_P D wk_Cl [(h0, .inr (0, [.ref qr, .ref qn, .ref qw, .ref qa, .ref qb, .ref qc, .null])), ar_ qr cA 20 (fun _ => 0), ar_ qn cA 5 (fun _ => 0), ar_ qw cA 10 (fun _ => 0), ar_ qa cA 5 (fun _ => 0), ar_ qb cA 5 (fun _ => 0), ar_ qc cA 5 (fun _ => 0)] H := hP
  have hD : va_D A [(h0, .inr (0, [.ref qr, .ref qn, .ref qw, .ref qa, .ref qb, .ref qc, .null])), ar_ qr cA 20 (fun _ => 0), ar_ qn cA 5 (fun _ => 0), ar_ qw cA 10 (fun _ => 0), ar_ qa cA 5 (fun _ => 0), ar_ qb cA 5 (fun _ => 0), ar_ qc cA 5 (fun _ => 0)] := hD
  refine lv_aload_n hx hb dX0_init_48 rfl (lv_at hl 0 rfl) ?_
  refine lv_iconst (v := nI 5) hx hb dX0_init_49 (by decide) ?_
  refine na_2 hx hb hts hK hP hD hS hA 5 7 55 (by decide) (by decide) (by decide) (by decide) (by decide) dX0_init_50 (fun qx H hP hD hS => ?_)
  have hP : va_P D wk_Cl [(h0, .inr (0, [.ref qr, .ref qn, .ref qw, .ref qa, .ref qb, .ref qc, .null])), ar_ qr cA 20 (fun _ => 0), ar_ qn cA 5 (fun _ => 0), ar_ qw cA 10 (fun _ => 0), ar_ qa cA 5 (fun _ => 0), ar_ qb cA 5 (fun _ => 0), ar_ qc cA 5 (fun _ => 0), ar_ qx cA 5 (fun _ => 0)] H := hP
  have hD : va_D A [(h0, .inr (0, [.ref qr, .ref qn, .ref qw, .ref qa, .ref qb, .ref qc, .null])), ar_ qr cA 20 (fun _ => 0), ar_ qn cA 5 (fun _ => 0), ar_ qw cA 10 (fun _ => 0), ar_ qa cA 5 (fun _ => 0), ar_ qb cA 5 (fun _ => 0), ar_ qc cA 5 (fun _ => 0), ar_ qx cA 5 (fun _ => 0)] := hD
  refine va_putF (D := D) (ci := 0) (v := .ref qx) (ty := .array .long) (C := RX0) (T := TX0) (N := 7) hx hb hts in_X0 tyX0 tyX0_ok nmX0 hown hK hP hD hS 0 rfl rfl 6 (by decide) (hts _ q46) (fun _ h9 => h9) rfl hin rfl (by decide +kernel) rfl rfl (Nat.le_of_ble_eq_true rfl) dX0_init_52 (fun H locs hP hD hS => ?_)
  have hP : va_P D wk_Cl [(h0, .inr (0, [.ref qr, .ref qn, .ref qw, .ref qa, .ref qb, .ref qc, .ref qx])), ar_ qr cA 20 (fun _ => 0), ar_ qn cA 5 (fun _ => 0), ar_ qw cA 10 (fun _ => 0), ar_ qa cA 5 (fun _ => 0), ar_ qb cA 5 (fun _ => 0), ar_ qc cA 5 (fun _ => 0), ar_ qx cA 5 (fun _ => 0)] H := hP
  have hD : va_D A [(h0, .inr (0, [.ref qr, .ref qn, .ref qw, .ref qa, .ref qb, .ref qc, .ref qx])), ar_ qr cA 20 (fun _ => 0), ar_ qn cA 5 (fun _ => 0), ar_ qw cA 10 (fun _ => 0), ar_ qa cA 5 (fun _ => 0), ar_ qb cA 5 (fun _ => 0), ar_ qc cA 5 (fun _ => 0), ar_ qx cA 5 (fun _ => 0)] := hD
  have hP : va_P D wk_Cl [o0_ h0 qr qn qw qa qb qc qx, ar_ qr cA 20 (fun _ => 0), ar_ qn cA 5 (fun _ => 0), ar_ qw cA 10 (fun _ => 0), ar_ qa cA 5 (fun _ => 0), ar_ qb cA 5 (fun _ => 0), ar_ qc cA 5 (fun _ => 0), ar_ qx cA 5 (fun _ => 0)] H := hP
  have hD : va_D A [o0_ h0 qr qn qw qa qb qc qx, ar_ qr cA 20 (fun _ => 0), ar_ qn cA 5 (fun _ => 0), ar_ qw cA 10 (fun _ => 0), ar_ qa cA 5 (fun _ => 0), ar_ qb cA 5 (fun _ => 0), ar_ qc cA 5 (fun _ => 0), ar_ qx cA 5 (fun _ => 0)] := hD
  refine lv_aload_n hx hb dX0_init_55 rfl (lv_at hl 0 rfl) ?_
  refine va_get (D := D) (ci := 0) (v := .ref qa) (C := RX0) (T := TX0) (N := 7) hx hb hts in_X0 hown hK hP 0 rfl rfl 3 (by decide) (hts _ q43) (fun _ h9 => h9) rfl dX0_init_56 ?_
  refine lv_iconst (v := nI 0) hx hb dX0_init_59 (by decide) ?_
  refine lv_ldc2 (v := 2) hx hb hown (hts _ q21) dX0_init_60 ?_
  refine st_ hx hb hK hP hD hS 4 rfl 0 rfl (by decide) (by decide) dX0_init_63 (fun g_1 H locs hg_1 hP hD hS => ?_)
  obtain rfl : g_1 = vp_updL (fun _ => 0) 0 2 := hg_1
  have hP : va_P D wk_Cl [o0_ h0 qr qn qw qa qb qc qx, ar_ qr cA 20 (fun _ => 0), ar_ qn cA 5 (fun _ => 0), ar_ qw cA 10 (fun _ => 0), ar_ qa cA 5 (vp_updL (fun _ => 0) 0 2), ar_ qb cA 5 (fun _ => 0), ar_ qc cA 5 (fun _ => 0), ar_ qx cA 5 (fun _ => 0)] H := hP
  have hD : va_D A [o0_ h0 qr qn qw qa qb qc qx, ar_ qr cA 20 (fun _ => 0), ar_ qn cA 5 (fun _ => 0), ar_ qw cA 10 (fun _ => 0), ar_ qa cA 5 (vp_updL (fun _ => 0) 0 2), ar_ qb cA 5 (fun _ => 0), ar_ qc cA 5 (fun _ => 0), ar_ qx cA 5 (fun _ => 0)] := hD
  refine lv_iconst (v := nI 1) hx hb dX0_init_64 (by decide) ?_
  refine lv_istore_n (lv' := [(1, .int (nI 1)), (0, .ref h0)]) hx hb dX0_init_65 rfl hl (by decide) rfl (fun ls hl => ?_)
  have lq : ∀ k, k < 5 → ¬ nI 5 ≤ nI k := by decide +kernel
  have lp : ∀ (n i : Nat) (fw fa : Nat → Int64), i + n = 282 → rp_ fa (gf_sqn i (gf_x 1#283)) → ∀ (H : Heap) (locs : List Loc) (ls : Array Slot), va_P D wk_Cl [o0_ h0 qr qn qw qa qb qc qx, ar_ qr cA 20 (fun _ => 0), ar_ qn cA 5 (fun _ => 0), ar_ qw cA 10 fw, ar_ qa cA 5 fa, ar_ qb cA 5 (fun _ => 0), ar_ qc cA 5 (fun _ => 0), ar_ qx cA 5 (fun _ => 0)] H → va_D A [o0_ h0 qr qn qw qa qb qc qx, ar_ qr cA 20 (fun _ => 0), ar_ qn cA 5 (fun _ => 0), ar_ qw cA 10 fw, ar_ qa cA 5 fa, ar_ qb cA 5 (fun _ => 0), ar_ qc cA 5 (fun _ => 0), ar_ qx cA 5 (fun _ => 0)] → va_S A s.heap H locs → lv_has ls 2 [(1, .int (nI (i + 1))), (0, .ref h0)] → W p l e ({ frames := 2, cells := 7, slots := 55, locals := 44 } : Room) s m ([.ref h0] : List Value).toArray below meth c H locs 7 55 Q (F0 m 66 ls []) := by
    intro n
    induction n with
    | zero =>
      intro i fw fa hi ha H locs ls hP hD hS hl
      obtain rfl : i = 282 := by omega
      refine lv_iload_n hx hb dX0_init_66 rfl (lv_at hl 0 rfl) ?_
      refine lv_sipush (v := nI 283) hx hb dX0_init_67 (by decide) ?_
      refine lv_icmp_ge (tgt := 83) hx hb dX0_init_70 (by decide) (fun _ => ?_) (fun hc => absurd (by decide) hc)
      refine lv_iconst (v := nI 0) hx hb dX0_init_83 (by decide) ?_
      refine lv_istore_n (lv' := [(1, .int (nI 0)), (0, .ref h0)]) hx hb dX0_init_84 rfl hl (by decide) rfl (fun ls hl => ?_)
      have l2 : ∀ (nz k : Nat), k + nz = 5 → ∀ (H : Heap) (locs : List Loc) (ls : Array Slot), va_P D wk_Cl [o0_ h0 qr qn qw qa qb qc qx, ar_ qr cA 20 (fun _ => 0), ar_ qn cA 5 (fun _ => 0), ar_ qw cA 10 fw, ar_ qa cA 5 fa, ar_ qb cA 5 (fun _ => 0), ar_ qc cA 5 (fun _ => 0), ar_ qx cA 5 (f0_ (fun _ => 0) fa k)] H → va_D A [o0_ h0 qr qn qw qa qb qc qx, ar_ qr cA 20 (fun _ => 0), ar_ qn cA 5 (fun _ => 0), ar_ qw cA 10 fw, ar_ qa cA 5 fa, ar_ qb cA 5 (fun _ => 0), ar_ qc cA 5 (fun _ => 0), ar_ qx cA 5 (f0_ (fun _ => 0) fa k)] → va_S A s.heap H locs → lv_has ls 2 [(1, .int (nI k)), (0, .ref h0)] → W p l e ({ frames := 2, cells := 7, slots := 55, locals := 44 } : Room) s m ([.ref h0] : List Value).toArray below meth c H locs 7 55 Q (F0 m 85 ls []) := by
        intro nz
        induction nz with
        | zero =>
          intro k hkk H locs ls hP hD hS hl
          obtain rfl : k = 5 := by omega
          refine lv_iload_n hx hb dX0_init_85 rfl (lv_at hl 0 rfl) ?_
          refine lv_iconst (v := nI 5) hx hb dX0_init_86 (by decide) ?_
          refine lv_icmp_ge (tgt := 108) hx hb dX0_init_87 (by decide) (fun _ => ?_) (fun hc => absurd (by decide) hc)
          exact ret (cA, (qr, qn, qw, qa, qb, qc, qx), (fun _ => 0, fun _ => 0, fw, fa, fun _ => 0, fun _ => 0, f0_ (fun _ => 0) fa 5)) _ _ _ _ dX0_init_108 ⟨fun _ => rfl, rfl, rp_congr ha (fun k hk => f0_in (fun _ => 0) fa 5 k hk)⟩ hK hP hD hS
        | succ nz ihz =>
          intro k hkk H locs ls hP hD hS hl
          have hk : k < 5 := by omega
          refine lv_iload_n hx hb dX0_init_85 rfl (lv_at hl 0 rfl) ?_
          refine lv_iconst (v := nI 5) hx hb dX0_init_86 (by decide) ?_
          refine lv_icmp_ge (tgt := 108) hx hb dX0_init_87 (by decide) (fun hc => absurd hc (lq k hk)) (fun _ => ?_)
          refine lv_aload_n hx hb dX0_init_90 rfl (lv_at hl 1 rfl) ?_
          refine va_get (D := D) (ci := 0) (v := .ref qx) (C := RX0) (T := TX0) (N := 7) hx hb hts in_X0 hown hK hP 0 rfl rfl 6 (by decide) (hts _ q46) (fun _ h9 => h9) rfl dX0_init_91 ?_
          refine lv_iload_n hx hb dX0_init_94 rfl (lv_at hl 0 rfl) ?_
          refine lv_aload_n hx hb dX0_init_95 rfl (lv_at hl 1 rfl) ?_
          refine va_get (D := D) (ci := 0) (v := .ref qa) (C := RX0) (T := TX0) (N := 7) hx hb hts in_X0 hown hK hP 0 rfl rfl 3 (by decide) (hts _ q43) (fun _ h9 => h9) rfl dX0_init_96 ?_
          refine lv_iload_n hx hb dX0_init_99 rfl (lv_at hl 0 rfl) ?_
          refine la_ (v := fa k) hx hb hK hP 4 rfl k rfl (by omega) (by decide) rfl dX0_init_100 ?_
          refine st_ hx hb hK hP hD hS 7 rfl k rfl (by omega) (by decide) dX0_init_101 (fun g_2 H locs hg_2 hP hD hS => ?_)
          obtain rfl : g_2 = f0_ (fun _ => 0) fa (k + 1) := hg_2
          have hP : va_P D wk_Cl [o0_ h0 qr qn qw qa qb qc qx, ar_ qr cA 20 (fun _ => 0), ar_ qn cA 5 (fun _ => 0), ar_ qw cA 10 fw, ar_ qa cA 5 fa, ar_ qb cA 5 (fun _ => 0), ar_ qc cA 5 (fun _ => 0), ar_ qx cA 5 (f0_ (fun _ => 0) fa (k + 1))] H := hP
          have hD : va_D A [o0_ h0 qr qn qw qa qb qc qx, ar_ qr cA 20 (fun _ => 0), ar_ qn cA 5 (fun _ => 0), ar_ qw cA 10 fw, ar_ qa cA 5 fa, ar_ qb cA 5 (fun _ => 0), ar_ qc cA 5 (fun _ => 0), ar_ qx cA 5 (f0_ (fun _ => 0) fa (k + 1))] := hD
          refine lv_iinc (v := nI (k + 1)) (lv' := [(1, .int (nI (k + 1))), (0, .ref h0)]) hx hb dX0_init_102 hl (k := 0) rfl (ii_1 _) (by decide) rfl (fun ls hl => ?_)
          refine lv_goto (tgt := 85) hx hb dX0_init_105 (by decide) ?_
          exact ihz (k + 1) (by omega) _ _ _ hP hD hS (lv_sub hl [0, 1] rfl)
      exact l2 5 0 rfl _ _ _ hP hD hS (lv_sub hl [0, 1] rfl)
    | succ n ih =>
      intro i fw fa hi ha H locs ls hP hD hS hl
      refine lv_iload_n hx hb dX0_init_66 rfl (lv_at hl 0 rfl) ?_
      refine lv_sipush (v := nI 283) hx hb dX0_init_67 (by decide) ?_
      refine lv_icmp_ge (tgt := 83) hx hb dX0_init_70 (by decide) (fun hc => absurd hc (nI_ge (by omega) (by decide))) (fun _ => ?_)
      refine lv_aload_n hx hb dX0_init_73 rfl (lv_at hl 1 rfl) ?_
      refine cv_V (ci := 0) (n := 0) (As := []) (rest := []) (wr := [ar_ qr cA 20 (fun _ => 0), ar_ qn cA 5 (fun _ => 0), ar_ qb cA 5 (fun _ => 0), ar_ qc cA 5 (fun _ => 0), ar_ qx cA 5 (fun _ => 0)]) (w2 := fun u : (Nat → Int64) × (Nat → Int64) => [o0_ h0 qr qn qw qa qb qc qx, ar_ qr cA 20 (fun _ => 0), ar_ qn cA 5 (fun _ => 0), ar_ qw cA 10 u.1, ar_ qa cA 5 u.2, ar_ qb cA 5 (fun _ => 0), ar_ qc cA 5 (fun _ => 0), ar_ qx cA 5 (fun _ => 0)]) hx hb hml hown hts hK (m0_twice l D cA h0 qr qn qw qa qb qc qx fw fa _ ha) (lw_V q22 q24 qs0 q11 q25) (by decide +kernel) rfl ⟨rfl, rfl⟩ ⟨Nat.le_of_ble_eq_true rfl, Nat.le_of_ble_eq_true rfl⟩ ⟨Nat.le_refl _, Nat.le_refl _⟩ hP hD hS hA [0, 3, 4] [1, 2, 5, 6, 7] [5, 0, 1, 6, 7, 2, 3, 4] rfl rfl rfl rfl (by decide) (by decide) (by decide) (by decide) (fun _ => rfl) hl.1 rfl (Nat.le_of_ble_eq_true rfl) dX0_init_74 (fun u H locs h1 hP hD hS => ?_)
      obtain ⟨w1, a1⟩ := u
      have hP : va_P D wk_Cl [o0_ h0 qr qn qw qa qb qc qx, ar_ qr cA 20 (fun _ => 0), ar_ qn cA 5 (fun _ => 0), ar_ qw cA 10 w1, ar_ qa cA 5 a1, ar_ qb cA 5 (fun _ => 0), ar_ qc cA 5 (fun _ => 0), ar_ qx cA 5 (fun _ => 0)] H := hP
      have hD : va_D A [o0_ h0 qr qn qw qa qb qc qx, ar_ qr cA 20 (fun _ => 0), ar_ qn cA 5 (fun _ => 0), ar_ qw cA 10 w1, ar_ qa cA 5 a1, ar_ qb cA 5 (fun _ => 0), ar_ qc cA 5 (fun _ => 0), ar_ qx cA 5 (fun _ => 0)] := hD
      refine lv_iinc (v := nI (i + 1 + 1)) (lv' := [(1, .int (nI (i + 1 + 1))), (0, .ref h0)]) hx hb dX0_init_77 hl (k := 0) rfl (ii_1 _) (by decide) rfl (fun ls hl => ?_)
      refine lv_goto (tgt := 66) hx hb dX0_init_80 (by decide) ?_
      exact ih (i + 1) w1 a1 (by omega) h1 _ _ _ hP hD hS (lv_sub hl [0, 1] rfl)
  exact lp 282 0 (fun _ => 0) (vp_updL (fun _ => 0) 0 2) rfl rp_2 _ _ _ hP hD hS (lv_sub hl [0, 1] rfl)
set_option maxHeartbeats 4000000 in
set_option maxRecDepth 100000 in
/-- Field283Model() -/
theorem m1_init (l : Launch) (D : va_G) (h0 : Nat) : MetC_ l yX1_init cX1_init 1 ({ frames := 1, cells := 6, slots := 45, locals := 12 } : Room) D h0 [(h0, .inr (1, [.null, .null, .null, .null, .null, .null]))] (fun (u : ClassId × (Nat × Nat × Nat × Nat × Nat × Nat) × ((Nat → Int64) × (Nat → Int64) × (Nat → Int64) × (Nat → Int64) × (Nat → Int64) × (Nat → Int64))) => (∀ j, u.2.2.1 j = 0) ∧ u.2.2.2.1 = (fun _ => 0)) (fun u => u.1) (fun u => [o1_ h0 u.2.1.1 u.2.1.2.1 u.2.1.2.2.1 u.2.1.2.2.2.1 u.2.1.2.2.2.2.1 u.2.1.2.2.2.2.2, ar_ u.2.1.1 u.1 20 u.2.2.1, ar_ u.2.1.2.1 u.1 5 u.2.2.2.1, ar_ u.2.1.2.2.1 u.1 5 u.2.2.2.2.1, ar_ u.2.1.2.2.2.1 u.1 5 u.2.2.2.2.2.1, ar_ u.2.1.2.2.2.2.1 u.1 5 u.2.2.2.2.2.2.1, ar_ u.2.1.2.2.2.2.2 u.1 5 u.2.2.2.2.2.2.2]) 6 45 := by
  refine metC_of (by decide) rfl (Nat.le_of_ble_eq_true rfl) ?_
  intro p e s m below meth c A Q hx hb hml hown hts hK hA hin ret ls hP hD hl
  have hown : s.vm.findClass "Field283Model" = some m.cls := hown
  have hS : va_S A s.heap s.heap [] := va_S.rf
  have hl : lv_has ls 1 [(0, .ref h0)] := hl
  refine lv_aload_n hx hb dX1_init_0 rfl (lv_at hl 0 rfl) ?_
  refine W.objInit hx hb hown (hts _ q147) (hts _ q19) (hts _ q20) rfl (by rw [hml]; exact hl.1) rfl dX1_init_1 (Nat.le_of_ble_eq_true rfl) (Nat.le_of_ble_eq_true rfl) ?_
  refine W.eq (g2 := F0 m 4 ls []) rfl ?_
  refine lv_aload_n hx hb dX1_init_4 rfl (lv_at hl 0 rfl) ?_
  refine lv_bipush (v := nI 20) hx hb dX1_init_5 (by decide) ?_
  refine na_1 hx hb hts hK hP hD hS hA 20 1 20 (by decide) (by decide) (by decide) (by decide) (by decide) dX1_init_7 (fun qf cA H hK hP hD hS => ?_)
  have hP : va_P D wk_Cl [(h0, .inr (1, [.null, .null, .null, .null, .null, .null])), ar_ qf cA 20 (fun _ => 0)] H := hP
  have hD : va_D A [(h0, .inr (1, [.null, .null, .null, .null, .null, .null])), ar_ qf cA 20 (fun _ => 0)] := hD
  refine va_putF (D := D) (ci := 1) (v := .ref qf) (ty := .array .long) (C := RX1) (T := TX1) (N := 6) hx hb hts in_X1 tyX1 tyX1_ok nmX1 hown hK hP hD hS 0 rfl rfl 0 (by decide) (hts _ q148) (fun _ h9 => h9) rfl hin rfl (by decide +kernel) rfl rfl (Nat.le_of_ble_eq_true rfl) dX1_init_9 (fun H locs hP hD hS => ?_)
  have hP : va_P D wk_Cl [(h0, .inr (1, [.ref qf, .null, .null, .null, .null, .null])), ar_ qf cA 20 (fun _ => 0)] H := hP
  have hD : va_D A [(h0, .inr (1, [.ref qf, .null, .null, .null, .null, .null])), ar_ qf cA 20 (fun _ => 0)] := hD
  refine lv_aload_n hx hb dX1_init_12 rfl (lv_at hl 0 rfl) ?_
  refine lv_iconst (v := nI 5) hx hb dX1_init_13 (by decide) ?_
  refine na_2 hx hb hts hK hP hD hS hA 5 2 25 (by decide) (by decide) (by decide) (by decide) (by decide) dX1_init_14 (fun qn H hP hD hS => ?_)
  have hP : va_P D wk_Cl [(h0, .inr (1, [.ref qf, .null, .null, .null, .null, .null])), ar_ qf cA 20 (fun _ => 0), ar_ qn cA 5 (fun _ => 0)] H := hP
  have hD : va_D A [(h0, .inr (1, [.ref qf, .null, .null, .null, .null, .null])), ar_ qf cA 20 (fun _ => 0), ar_ qn cA 5 (fun _ => 0)] := hD
  refine va_putF (D := D) (ci := 1) (v := .ref qn) (ty := .array .long) (C := RX1) (T := TX1) (N := 6) hx hb hts in_X1 tyX1 tyX1_ok nmX1 hown hK hP hD hS 0 rfl rfl 1 (by decide) (hts _ q149) (fun _ h9 => h9) rfl hin rfl (by decide +kernel) rfl rfl (Nat.le_of_ble_eq_true rfl) dX1_init_16 (fun H locs hP hD hS => ?_)
  have hP : va_P D wk_Cl [(h0, .inr (1, [.ref qf, .ref qn, .null, .null, .null, .null])), ar_ qf cA 20 (fun _ => 0), ar_ qn cA 5 (fun _ => 0)] H := hP
  have hD : va_D A [(h0, .inr (1, [.ref qf, .ref qn, .null, .null, .null, .null])), ar_ qf cA 20 (fun _ => 0), ar_ qn cA 5 (fun _ => 0)] := hD
  refine lv_aload_n hx hb dX1_init_19 rfl (lv_at hl 0 rfl) ?_
  refine lv_iconst (v := nI 5) hx hb dX1_init_20 (by decide) ?_
  refine na_2 hx hb hts hK hP hD hS hA 5 3 30 (by decide) (by decide) (by decide) (by decide) (by decide) dX1_init_21 (fun qx H hP hD hS => ?_)
  have hP : va_P D wk_Cl [(h0, .inr (1, [.ref qf, .ref qn, .null, .null, .null, .null])), ar_ qf cA 20 (fun _ => 0), ar_ qn cA 5 (fun _ => 0), ar_ qx cA 5 (fun _ => 0)] H := hP
  have hD : va_D A [(h0, .inr (1, [.ref qf, .ref qn, .null, .null, .null, .null])), ar_ qf cA 20 (fun _ => 0), ar_ qn cA 5 (fun _ => 0), ar_ qx cA 5 (fun _ => 0)] := hD
  refine va_putF (D := D) (ci := 1) (v := .ref qx) (ty := .array .long) (C := RX1) (T := TX1) (N := 6) hx hb hts in_X1 tyX1 tyX1_ok nmX1 hown hK hP hD hS 0 rfl rfl 2 (by decide) (hts _ q150) (fun _ h9 => h9) rfl hin rfl (by decide +kernel) rfl rfl (Nat.le_of_ble_eq_true rfl) dX1_init_23 (fun H locs hP hD hS => ?_)
  have hP : va_P D wk_Cl [(h0, .inr (1, [.ref qf, .ref qn, .ref qx, .null, .null, .null])), ar_ qf cA 20 (fun _ => 0), ar_ qn cA 5 (fun _ => 0), ar_ qx cA 5 (fun _ => 0)] H := hP
  have hD : va_D A [(h0, .inr (1, [.ref qf, .ref qn, .ref qx, .null, .null, .null])), ar_ qf cA 20 (fun _ => 0), ar_ qn cA 5 (fun _ => 0), ar_ qx cA 5 (fun _ => 0)] := hD
  refine lv_aload_n hx hb dX1_init_26 rfl (lv_at hl 0 rfl) ?_
  refine lv_iconst (v := nI 5) hx hb dX1_init_27 (by decide) ?_
  refine na_2 hx hb hts hK hP hD hS hA 5 4 35 (by decide) (by decide) (by decide) (by decide) (by decide) dX1_init_28 (fun qy H hP hD hS => ?_)
  have hP : va_P D wk_Cl [(h0, .inr (1, [.ref qf, .ref qn, .ref qx, .null, .null, .null])), ar_ qf cA 20 (fun _ => 0), ar_ qn cA 5 (fun _ => 0), ar_ qx cA 5 (fun _ => 0), ar_ qy cA 5 (fun _ => 0)] H := hP
  have hD : va_D A [(h0, .inr (1, [.ref qf, .ref qn, .ref qx, .null, .null, .null])), ar_ qf cA 20 (fun _ => 0), ar_ qn cA 5 (fun _ => 0), ar_ qx cA 5 (fun _ => 0), ar_ qy cA 5 (fun _ => 0)] := hD
  refine va_putF (D := D) (ci := 1) (v := .ref qy) (ty := .array .long) (C := RX1) (T := TX1) (N := 6) hx hb hts in_X1 tyX1 tyX1_ok nmX1 hown hK hP hD hS 0 rfl rfl 3 (by decide) (hts _ q151) (fun _ h9 => h9) rfl hin rfl (by decide +kernel) rfl rfl (Nat.le_of_ble_eq_true rfl) dX1_init_30 (fun H locs hP hD hS => ?_)
  have hP : va_P D wk_Cl [(h0, .inr (1, [.ref qf, .ref qn, .ref qx, .ref qy, .null, .null])), ar_ qf cA 20 (fun _ => 0), ar_ qn cA 5 (fun _ => 0), ar_ qx cA 5 (fun _ => 0), ar_ qy cA 5 (fun _ => 0)] H := hP
  have hD : va_D A [(h0, .inr (1, [.ref qf, .ref qn, .ref qx, .ref qy, .null, .null])), ar_ qf cA 20 (fun _ => 0), ar_ qn cA 5 (fun _ => 0), ar_ qx cA 5 (fun _ => 0), ar_ qy cA 5 (fun _ => 0)] := hD
  refine lv_aload_n hx hb dX1_init_33 rfl (lv_at hl 0 rfl) ?_
  refine lv_iconst (v := nI 5) hx hb dX1_init_34 (by decide) ?_
  refine na_2 hx hb hts hK hP hD hS hA 5 5 40 (by decide) (by decide) (by decide) (by decide) (by decide) dX1_init_35 (fun qz H hP hD hS => ?_)
  have hP : va_P D wk_Cl [(h0, .inr (1, [.ref qf, .ref qn, .ref qx, .ref qy, .null, .null])), ar_ qf cA 20 (fun _ => 0), ar_ qn cA 5 (fun _ => 0), ar_ qx cA 5 (fun _ => 0), ar_ qy cA 5 (fun _ => 0), ar_ qz cA 5 (fun _ => 0)] H := hP
  have hD : va_D A [(h0, .inr (1, [.ref qf, .ref qn, .ref qx, .ref qy, .null, .null])), ar_ qf cA 20 (fun _ => 0), ar_ qn cA 5 (fun _ => 0), ar_ qx cA 5 (fun _ => 0), ar_ qy cA 5 (fun _ => 0), ar_ qz cA 5 (fun _ => 0)] := hD
  refine va_putF (D := D) (ci := 1) (v := .ref qz) (ty := .array .long) (C := RX1) (T := TX1) (N := 6) hx hb hts in_X1 tyX1 tyX1_ok nmX1 hown hK hP hD hS 0 rfl rfl 4 (by decide) (hts _ q152) (fun _ h9 => h9) rfl hin rfl (by decide +kernel) rfl rfl (Nat.le_of_ble_eq_true rfl) dX1_init_37 (fun H locs hP hD hS => ?_)
  have hP : va_P D wk_Cl [(h0, .inr (1, [.ref qf, .ref qn, .ref qx, .ref qy, .ref qz, .null])), ar_ qf cA 20 (fun _ => 0), ar_ qn cA 5 (fun _ => 0), ar_ qx cA 5 (fun _ => 0), ar_ qy cA 5 (fun _ => 0), ar_ qz cA 5 (fun _ => 0)] H := hP
  have hD : va_D A [(h0, .inr (1, [.ref qf, .ref qn, .ref qx, .ref qy, .ref qz, .null])), ar_ qf cA 20 (fun _ => 0), ar_ qn cA 5 (fun _ => 0), ar_ qx cA 5 (fun _ => 0), ar_ qy cA 5 (fun _ => 0), ar_ qz cA 5 (fun _ => 0)] := hD
  refine lv_aload_n hx hb dX1_init_40 rfl (lv_at hl 0 rfl) ?_
  refine lv_iconst (v := nI 5) hx hb dX1_init_41 (by decide) ?_
  refine na_2 hx hb hts hK hP hD hS hA 5 6 45 (by decide) (by decide) (by decide) (by decide) (by decide) dX1_init_42 (fun qa H hP hD hS => ?_)
  have hP : va_P D wk_Cl [(h0, .inr (1, [.ref qf, .ref qn, .ref qx, .ref qy, .ref qz, .null])), ar_ qf cA 20 (fun _ => 0), ar_ qn cA 5 (fun _ => 0), ar_ qx cA 5 (fun _ => 0), ar_ qy cA 5 (fun _ => 0), ar_ qz cA 5 (fun _ => 0), ar_ qa cA 5 (fun _ => 0)] H := hP
  have hD : va_D A [(h0, .inr (1, [.ref qf, .ref qn, .ref qx, .ref qy, .ref qz, .null])), ar_ qf cA 20 (fun _ => 0), ar_ qn cA 5 (fun _ => 0), ar_ qx cA 5 (fun _ => 0), ar_ qy cA 5 (fun _ => 0), ar_ qz cA 5 (fun _ => 0), ar_ qa cA 5 (fun _ => 0)] := hD
  refine va_putF (D := D) (ci := 1) (v := .ref qa) (ty := .array .long) (C := RX1) (T := TX1) (N := 6) hx hb hts in_X1 tyX1 tyX1_ok nmX1 hown hK hP hD hS 0 rfl rfl 5 (by decide) (hts _ q153) (fun _ h9 => h9) rfl hin rfl (by decide +kernel) rfl rfl (Nat.le_of_ble_eq_true rfl) dX1_init_44 (fun H locs hP hD hS => ?_)
  have hP : va_P D wk_Cl [(h0, .inr (1, [.ref qf, .ref qn, .ref qx, .ref qy, .ref qz, .ref qa])), ar_ qf cA 20 (fun _ => 0), ar_ qn cA 5 (fun _ => 0), ar_ qx cA 5 (fun _ => 0), ar_ qy cA 5 (fun _ => 0), ar_ qz cA 5 (fun _ => 0), ar_ qa cA 5 (fun _ => 0)] H := hP
  have hD : va_D A [(h0, .inr (1, [.ref qf, .ref qn, .ref qx, .ref qy, .ref qz, .ref qa])), ar_ qf cA 20 (fun _ => 0), ar_ qn cA 5 (fun _ => 0), ar_ qx cA 5 (fun _ => 0), ar_ qy cA 5 (fun _ => 0), ar_ qz cA 5 (fun _ => 0), ar_ qa cA 5 (fun _ => 0)] := hD
  exact ret (cA, (qf, qn, qx, qy, qz, qa), (fun _ => 0, fun _ => 0, fun _ => 0, fun _ => 0, fun _ => 0, fun _ => 0)) _ _ _ _ dX1_init_47 ⟨fun _ => rfl, rfl⟩ hK hP hD hS
end
section
/-! THE CLAIM OUT OF ONE WALK OF THE LAW'S BODY. Your part is whole_start (and what it stands on); all else here is the same for every law, but numbers. -/
def R_law : String := "Field283Law"
def lw_P (b : Addr) (xs : List Int32) (args : Array Value) (s : State) : Prop := args = #[.ref b] ∧ s.IntsAt b xs ∧ xs.length ≤ 384 ∧ (Jvm.Cond.and given_1 narrow_1).before args s = true
def lw_Q (_ : Array Value) (s : State) (o : Outcome) (t : State) : Prop := o = .returned (some (.int 1)) ∧ Framed s o t [] 600000 7290000
def lw_Z (below : List Frame) (a : Array Value) (s : State) : State → Prop := fun t => ∃ o, t.status = .running ∧ Ended t below o ∧ lw_Q a s o t
/-- the law's own end, with 1 on the stack, nothing written that was there before, its room as the claim has it -/
theorem lw_ret {p : Program} {l : Launch} {e : Env} {s : State} {m : MethodId} {below : List Frame} {meth : Method} {c : Code} {b : Nat} (hx : p.tables.exec = Jvm.exec) (hb : c.code = code) (hr : meth.sig.returnType = ret) (hlocks : meth.locks = false) {pc : Nat} {H : Heap} {ls : Array Slot} (hdg : decode code pc = .ok (.ireturn, 1)) : W p l e room_1 s m #[Value.ref b] below meth c H [] 600000 7290000 (lw_Z below #[Value.ref b] s) (F0 m pc ls [.int 1]) := by
  intro T hT X
  obtain ⟨fs, hret, hrun, hended, hW, hframe⟩ := X.leave (v := some (.int 1)) (hlocks := hlocks) (fun h => by rw [hr] at h; cases h)
  have hmeth' : T.vm.method? m = some meth := X.method'
  refine ⟨T.setFrames fs, ?_, .returned (some (.int 1)), hrun, hended, rfl, ⟨_, rfl⟩, hW, hframe⟩
  jvm_step X.here [X.here.top, hx, hb, hdg, hmeth', hr, ret, narrow_b1]
  (try refine ⟨rfl, ?_⟩); (try refine ⟨rfl, ?_⟩)
  first | (intro acts; rw [hret _ acts rfl rfl rfl]) | rw [hret _ _ rfl rfl rfl]
  exact Steps.refl _
/-- what holds at the law's entry: the machine, the code, the tables' words (any of lw_tbl by 'hts w (by decide +kernel)'), the script of L ints xs at the cell b, what the Statement gives of the start (any of its parts by flat_of_before) -/
def lw_At (p : Program) (s : State) (m : MethodId) (meth : Method) (c : Code) (b L : Nat) (xs : Nat → Int32) : Prop :=
  p.tables.exec = Jvm.exec ∧ c.code = code ∧ meth.sig.returnType = ret ∧ c.maxLocals = 4 ∧ s.vm.findClass R_law = some m.cls ∧ (∀ w ∈ lw_tbl, w.before #[Value.ref b] s = true) ∧ va_X b L xs s s.heap ∧ b < s.heap.size ∧ meth.locks = false ∧ (Jvm.Cond.and given_1 narrow_1).before #[Value.ref b] s = true
end
section
set_option maxHeartbeats 4000000 in
set_option maxRecDepth 100000 in
/-- the law's loop at its head: both hold the same four elements, and the same line -/
theorem law_loop {p : Program} {l : Launch} {e : Env} {s : State} {m : MethodId} {below : List Frame} {meth : Method} {c : Code} {D : va_G} {cA : ClassId} {A : Nat → Prop} {b L : Nat} {xs : Nat → Int32} (hL : L ≤ 384) (C0 : lw_At p s m meth c b L xs) (hK : va_K D wk_Cl [(cA, .long)] s) (hA : ∀ q : Nat, s.heap.size ≤ q → A q) (hAs : ∀ q : Nat, A q → s.heap.size ≤ q) (h0 qr qn qw qa qb qc qx h1 rf rn rx ry rz ra : Nat) :
    ∀ (n i : Nat) (f1 f2 f3 f4 f5 f6 f7 g1 g2 g3 g4 g5 g6 : Nat → Int64) (v : Nat → gf_V), L < i + n → i ≤ 384 → rgs_ f1 v → rgs_ g1 v → g2 = f2 → rp_ f7 gf_root → ∀ (H : Heap) (locs : List Loc) (ls : Array Slot), va_P D wk_Cl [o0_ h0 qr qn qw qa qb qc qx, ar_ qr cA 20 f1, ar_ qn cA 5 f2, ar_ qw cA 10 f3, ar_ qa cA 5 f4, ar_ qb cA 5 f5, ar_ qc cA 5 f6, ar_ qx cA 5 f7, o1_ h1 rf rn rx ry rz ra, ar_ rf cA 20 g1, ar_ rn cA 5 g2, ar_ rx cA 5 g3, ar_ ry cA 5 g4, ar_ rz cA 5 g5, ar_ ra cA 5 g6] H → va_D A [o0_ h0 qr qn qw qa qb qc qx, ar_ qr cA 20 f1, ar_ qn cA 5 f2, ar_ qw cA 10 f3, ar_ qa cA 5 f4, ar_ qb cA 5 f5, ar_ qc cA 5 f6, ar_ qx cA 5 f7, o1_ h1 rf rn rx ry rz ra, ar_ rf cA 20 g1, ar_ rn cA 5 g2, ar_ rx cA 5 g3, ar_ ry cA 5 g4, ar_ rz cA 5 g5, ar_ ra cA 5 g6] → va_S A s.heap H locs → lv_has ls 4 [(3, .int (nI i)), (0, .ref b), (1, .ref h0), (2, .ref h1)] → W p l e room_1 s m #[Value.ref b] below meth c H locs 600000 7290000 (lw_Z below #[Value.ref b] s) (F0 m 18 ls []) := by
  obtain ⟨hx, hb, hr, hml, hown, hts0, hX, hbl, hlocks, hgv⟩ := C0
  have hts : ∀ w ∈ lw_all, w.before #[Value.ref b] s = true := fun w h => hts0 w (lw_all_tbl h)
  have hown : s.vm.findClass "Field283Law" = some m.cls := hown
  have hbA : ¬ A b := fun h => Nat.not_le.mpr hbl (hAs b h)
  have lt_in : ∀ i : Nat, i ≤ 384 → i + 6 ≤ L → ¬ nI L - nI 6 < nI i := by
    intro i hi h
    rw [Int32.lt_iff_toInt_lt, pk_sub_toInt (by omega) (by decide), nI_toInt (by omega)]
    omega
  have lt_out : ∀ i : Nat, i ≤ 384 → L < i + 6 → nI L - nI 6 < nI i := by
    intro i hi h
    rw [Int32.lt_iff_toInt_lt, pk_sub_toInt (by omega) (by decide), nI_toInt (by omega)]
    omega
  intro n
  induction n with
  | zero =>
    intro i f1 f2 f3 f4 f5 f6 f7 g1 g2 g3 g4 g5 g6 v hn hi hf hg hline hroot H locs ls hP hD hS hl
    refine lv_iload_n hx hb dL_law_18 rfl (lv_at hl 0 rfl) ?_
    refine lv_aload_n hx hb dL_law_19 rfl (lv_at hl 1 rfl) ?_
    refine va_slen hx hb hX hbl hbA hS dL_law_20 ?_
    refine ti_ (nI L) rfl ?_
    refine lv_bipush (v := nI 6) hx hb dL_law_21 (by decide) ?_
    refine lv_isub hx hb dL_law_23 ?_
    refine ti_ (nI L - nI 6) rfl ?_
    refine lv_icmp_gt (tgt := 485) hx hb dL_law_24 (by decide) (fun _ => ?_) (fun hc => absurd (lt_out i hi (by omega)) hc)
    refine lv_iconst (v := nI 1) hx hb dL_law_485 (by decide) ?_
    refine ti_ 1 (by decide) ?_
    refine va_forget (fun q hq => hAs _ (hS.2.2 q hq)) ?_
    exact lw_ret hx hb hr hlocks dL_law_486
  | succ n ih =>
    intro i f1 f2 f3 f4 f5 f6 f7 g1 g2 g3 g4 g5 g6 v hn hi hf hg hline hroot H locs ls hP hD hS hl
    by_cases h6 : i + 6 ≤ L
    · have k479 : ∀ (f1 f2 f3 f4 f5 f6 f7 g1 g2 g3 g4 g5 g6 : Nat → Int64) (v : Nat → gf_V), rgs_ f1 v → rgs_ g1 v → g2 = f2 → rp_ f7 gf_root → ∀ (H : Heap) (locs : List Loc) (ls : Array Slot), va_P D wk_Cl [o0_ h0 qr qn qw qa qb qc qx, ar_ qr cA 20 f1, ar_ qn cA 5 f2, ar_ qw cA 10 f3, ar_ qa cA 5 f4, ar_ qb cA 5 f5, ar_ qc cA 5 f6, ar_ qx cA 5 f7, o1_ h1 rf rn rx ry rz ra, ar_ rf cA 20 g1, ar_ rn cA 5 g2, ar_ rx cA 5 g3, ar_ ry cA 5 g4, ar_ rz cA 5 g5, ar_ ra cA 5 g6] H → va_D A [o0_ h0 qr qn qw qa qb qc qx, ar_ qr cA 20 f1, ar_ qn cA 5 f2, ar_ qw cA 10 f3, ar_ qa cA 5 f4, ar_ qb cA 5 f5, ar_ qc cA 5 f6, ar_ qx cA 5 f7, o1_ h1 rf rn rx ry rz ra, ar_ rf cA 20 g1, ar_ rn cA 5 g2, ar_ rx cA 5 g3, ar_ ry cA 5 g4, ar_ rz cA 5 g5, ar_ ra cA 5 g6] → va_S A s.heap H locs → lv_has ls 4 [(3, .int (nI i)), (0, .ref b), (1, .ref h0), (2, .ref h1)] → W p l e room_1 s m #[Value.ref b] below meth c H locs 600000 7290000 (lw_Z below #[Value.ref b] s) (F0 m 479 ls []) := by
        intro f1 f2 f3 f4 f5 f6 f7 g1 g2 g3 g4 g5 g6 v hf hg hline hroot H locs ls hP hD hS hl
        refine lv_iinc (v := nI (i + 6)) (lv' := [(3, .int (nI (i + 6))), (0, .ref b), (1, .ref h0), (2, .ref h1)]) hx hb dL_law_479 hl (k := 0) rfl (ii_6 _) (by decide) rfl (fun ls hl => ?_)
        refine lv_goto (tgt := 18) hx hb dL_law_482 (by decide) ?_
        exact ih (i + 6) f1 f2 f3 f4 f5 f6 f7 g1 g2 g3 g4 g5 g6 v (by omega) (by omega) hf hg hline hroot _ _ _ hP hD hS (lv_sub hl [0, 1, 2, 3] rfl)
      refine lv_iload_n hx hb dL_law_18 rfl (lv_at hl 0 rfl) ?_
      refine lv_aload_n hx hb dL_law_19 rfl (lv_at hl 1 rfl) ?_
      refine va_slen hx hb hX hbl hbA hS dL_law_20 ?_
      refine ti_ (nI L) rfl ?_
      refine lv_bipush (v := nI 6) hx hb dL_law_21 (by decide) ?_
      refine lv_isub hx hb dL_law_23 ?_
      refine ti_ (nI L - nI 6) rfl ?_
      refine lv_icmp_gt (tgt := 485) hx hb dL_law_24 (by decide) (fun hc => absurd hc (lt_in i hi h6)) (fun _ => ?_)
      refine lv_aload_n hx hb dL_law_27 rfl (lv_at hl 1 rfl) ?_
      refine lv_iload_n hx hb dL_law_28 rfl (lv_at hl 0 rfl) ?_
      refine sa_ hx hb hX hbl hbA hS i rfl (by omega) (by omega) dL_law_29 ?_
      refine lv_bipush (v := nI 15) hx hb dL_law_30 (by decide) ?_
      refine lv_iand hx hb dL_law_32 ?_
      refine ti_ (xs i &&& nI 15) rfl ?_
      obtain ⟨j, hj, ej⟩ : ∃ j : Nat, j < 2 ^ 4 ∧ xs i &&& nI 15 = nI j := pk_andE _ 4 (by decide +kernel)
      refine ti_ (nI j) ej ?_
      rcases (show j = 0 ∨ j = 1 ∨ j = 2 ∨ j = 3 ∨ j = 4 ∨ j = 5 ∨ j = 6 ∨ j = 7 ∨ j = 8 ∨ j = 9 ∨ j = 10 ∨ 11 ≤ j by omega) with rfl | rfl | rfl | rfl | rfl | rfl | rfl | rfl | rfl | rfl | rfl | h11
      · refine lv_tableIn (off := 59) (tgt := 92) hx hb dL_law_33 (by decide) (by decide) (by decide +kernel) (by decide) ?_
        refine lv_aload_n hx hb dL_law_92 rfl (lv_at hl 2 rfl) ?_
        refine lv_aload_n hx hb dL_law_93 rfl (lv_at hl 1 rfl) ?_
        refine lv_iload_n hx hb dL_law_94 rfl (lv_at hl 0 rfl) ?_
        refine lv_iconst (v := nI 1) hx hb dL_law_95 (by decide) ?_
        refine lv_iadd hx hb dL_law_96 ?_
        refine ti_ (nI (i + 1)) (nI_add _ _) ?_
        refine sa_ hx hb hX hbl hbA hS (i + 1) rfl (by omega) (by omega) dL_law_97 ?_
        refine lv_aload_n hx hb dL_law_98 rfl (lv_at hl 1 rfl) ?_
        refine lv_iload_n hx hb dL_law_99 rfl (lv_at hl 0 rfl) ?_
        refine lv_iconst (v := nI 2) hx hb dL_law_100 (by decide) ?_
        refine lv_iadd hx hb dL_law_101 ?_
        refine ti_ (nI (i + 2)) (nI_add _ _) ?_
        refine sa_ hx hb hX hbl hbA hS (i + 2) rfl (by omega) (by omega) dL_law_102 ?_
        refine lv_aload_n hx hb dL_law_103 rfl (lv_at hl 1 rfl) ?_
        refine lv_iload_n hx hb dL_law_104 rfl (lv_at hl 0 rfl) ?_
        refine lv_iconst (v := nI 3) hx hb dL_law_105 (by decide) ?_
        refine lv_iadd hx hb dL_law_106 ?_
        refine ti_ (nI (i + 3)) (nI_add _ _) ?_
        refine sa_ hx hb hX hbl hbA hS (i + 3) rfl (by omega) (by omega) dL_law_107 ?_
        refine lv_aload_n hx hb dL_law_108 rfl (lv_at hl 1 rfl) ?_
        refine lv_iload_n hx hb dL_law_109 rfl (lv_at hl 0 rfl) ?_
        refine lv_iconst (v := nI 4) hx hb dL_law_110 (by decide) ?_
        refine lv_iadd hx hb dL_law_111 ?_
        refine ti_ (nI (i + 4)) (nI_add _ _) ?_
        refine sa_ hx hb hX hbl hbA hS (i + 4) rfl (by omega) (by omega) dL_law_112 ?_
        refine lv_aload_n hx hb dL_law_113 rfl (lv_at hl 1 rfl) ?_
        refine lv_iload_n hx hb dL_law_114 rfl (lv_at hl 0 rfl) ?_
        refine lv_iconst (v := nI 5) hx hb dL_law_115 (by decide) ?_
        refine lv_iadd hx hb dL_law_116 ?_
        refine ti_ (nI (i + 5)) (nI_add _ _) ?_
        refine sa_ hx hb hX hbl hbA hS (i + 5) rfl (by omega) (by omega) dL_law_117 ?_
        refine cv_V (ci := 0) (n := 5) (As := [.int (xs (i + 1)), .int (xs (i + 2)), .int (xs (i + 3)), .int (xs (i + 4)), .int (xs (i + 5))]) (rest := []) (wr := [o1_ h1 rf rn rx ry rz ra, ar_ rf cA 20 g1, ar_ rn cA 5 g2, ar_ rx cA 5 g3, ar_ ry cA 5 g4, ar_ rz cA 5 g5, ar_ ra cA 5 g6]) (w2 := fun u : (Nat → Int64) × (Nat → Int64) × (Nat → Int64) × (Nat → Int64) × (Nat → Int64) × (Nat → Int64) × (Nat → Int64) => [o0_ h0 qr qn qw qa qb qc qx, ar_ qr cA 20 u.1, ar_ qn cA 5 u.2.1, ar_ qw cA 10 u.2.2.1, ar_ qa cA 5 u.2.2.2.1, ar_ qb cA 5 u.2.2.2.2.1, ar_ qc cA 5 u.2.2.2.2.2.1, ar_ qx cA 5 u.2.2.2.2.2.2, o1_ h1 rf rn rx ry rz ra, ar_ rf cA 20 g1, ar_ rn cA 5 g2, ar_ rx cA 5 g3, ar_ ry cA 5 g4, ar_ rz cA 5 g5, ar_ ra cA 5 g6]) hx hb hml hown hts hK (m0_line l D cA h0 qr qn qw qa qb qc qx f1 f2 f3 f4 f5 f6 f7 v hf (xs (i + 1)) (xs (i + 2)) (xs (i + 3)) (xs (i + 4)) (xs (i + 5))) (lw_V q63 q64 q65 q11 q66) (by decide +kernel) rfl ⟨rfl, rfl⟩ ⟨Nat.le_of_ble_eq_true rfl, Nat.le_of_ble_eq_true rfl⟩ ⟨Nat.le_refl _, Nat.le_refl _⟩ hP hD hS hA [0, 1, 2, 3, 4, 5, 6, 7] [8, 9, 10, 11, 12, 13, 14] [7, 8, 9, 10, 11, 12, 13, 14, 0, 1, 2, 3, 4, 5, 6] rfl rfl rfl rfl (by decide) (by decide) (by decide) (by decide) (fun _ => rfl) hl.1 rfl (Nat.le_of_ble_eq_true rfl) dL_law_118 (fun u H locs hu hP hD hS => ?_)
        obtain ⟨a1, a2, a3, a4, a5, a6, a7⟩ := u
        have hP : va_P D wk_Cl [o0_ h0 qr qn qw qa qb qc qx, ar_ qr cA 20 a1, ar_ qn cA 5 a2, ar_ qw cA 10 a3, ar_ qa cA 5 a4, ar_ qb cA 5 a5, ar_ qc cA 5 a6, ar_ qx cA 5 a7, o1_ h1 rf rn rx ry rz ra, ar_ rf cA 20 g1, ar_ rn cA 5 g2, ar_ rx cA 5 g3, ar_ ry cA 5 g4, ar_ rz cA 5 g5, ar_ ra cA 5 g6] H := hP
        have hD : va_D A [o0_ h0 qr qn qw qa qb qc qx, ar_ qr cA 20 a1, ar_ qn cA 5 a2, ar_ qw cA 10 a3, ar_ qa cA 5 a4, ar_ qb cA 5 a5, ar_ qc cA 5 a6, ar_ qx cA 5 a7, o1_ h1 rf rn rx ry rz ra, ar_ rf cA 20 g1, ar_ rn cA 5 g2, ar_ rx cA 5 g3, ar_ ry cA 5 g4, ar_ rz cA 5 g5, ar_ ra cA 5 g6] := hD
        refine lv_aload_n hx hb dL_law_121 rfl (lv_at hl 3 rfl) ?_
        refine lv_aload_n hx hb dL_law_122 rfl (lv_at hl 1 rfl) ?_
        refine lv_iload_n hx hb dL_law_123 rfl (lv_at hl 0 rfl) ?_
        refine lv_iconst (v := nI 1) hx hb dL_law_124 (by decide) ?_
        refine lv_iadd hx hb dL_law_125 ?_
        refine ti_ (nI (i + 1)) (nI_add _ _) ?_
        refine sa_ hx hb hX hbl hbA hS (i + 1) rfl (by omega) (by omega) dL_law_126 ?_
        refine lv_aload_n hx hb dL_law_127 rfl (lv_at hl 1 rfl) ?_
        refine lv_iload_n hx hb dL_law_128 rfl (lv_at hl 0 rfl) ?_
        refine lv_iconst (v := nI 2) hx hb dL_law_129 (by decide) ?_
        refine lv_iadd hx hb dL_law_130 ?_
        refine ti_ (nI (i + 2)) (nI_add _ _) ?_
        refine sa_ hx hb hX hbl hbA hS (i + 2) rfl (by omega) (by omega) dL_law_131 ?_
        refine lv_aload_n hx hb dL_law_132 rfl (lv_at hl 1 rfl) ?_
        refine lv_iload_n hx hb dL_law_133 rfl (lv_at hl 0 rfl) ?_
        refine lv_iconst (v := nI 3) hx hb dL_law_134 (by decide) ?_
        refine lv_iadd hx hb dL_law_135 ?_
        refine ti_ (nI (i + 3)) (nI_add _ _) ?_
        refine sa_ hx hb hX hbl hbA hS (i + 3) rfl (by omega) (by omega) dL_law_136 ?_
        refine lv_aload_n hx hb dL_law_137 rfl (lv_at hl 1 rfl) ?_
        refine lv_iload_n hx hb dL_law_138 rfl (lv_at hl 0 rfl) ?_
        refine lv_iconst (v := nI 4) hx hb dL_law_139 (by decide) ?_
        refine lv_iadd hx hb dL_law_140 ?_
        refine ti_ (nI (i + 4)) (nI_add _ _) ?_
        refine sa_ hx hb hX hbl hbA hS (i + 4) rfl (by omega) (by omega) dL_law_141 ?_
        refine lv_aload_n hx hb dL_law_142 rfl (lv_at hl 1 rfl) ?_
        refine lv_iload_n hx hb dL_law_143 rfl (lv_at hl 0 rfl) ?_
        refine lv_iconst (v := nI 5) hx hb dL_law_144 (by decide) ?_
        refine lv_iadd hx hb dL_law_145 ?_
        refine ti_ (nI (i + 5)) (nI_add _ _) ?_
        refine sa_ hx hb hX hbl hbA hS (i + 5) rfl (by omega) (by omega) dL_law_146 ?_
        refine cv_V (ci := 1) (n := 5) (As := [.int (xs (i + 1)), .int (xs (i + 2)), .int (xs (i + 3)), .int (xs (i + 4)), .int (xs (i + 5))]) (rest := []) (wr := [o0_ h0 qr qn qw qa qb qc qx, ar_ qr cA 20 a1, ar_ qn cA 5 a2, ar_ qw cA 10 a3, ar_ qa cA 5 a4, ar_ qb cA 5 a5, ar_ qc cA 5 a6, ar_ qx cA 5 a7]) (w2 := fun u : (Nat → Int64) × (Nat → Int64) × (Nat → Int64) × (Nat → Int64) × (Nat → Int64) × (Nat → Int64) => [o0_ h0 qr qn qw qa qb qc qx, ar_ qr cA 20 a1, ar_ qn cA 5 a2, ar_ qw cA 10 a3, ar_ qa cA 5 a4, ar_ qb cA 5 a5, ar_ qc cA 5 a6, ar_ qx cA 5 a7, o1_ h1 rf rn rx ry rz ra, ar_ rf cA 20 u.1, ar_ rn cA 5 u.2.1, ar_ rx cA 5 u.2.2.1, ar_ ry cA 5 u.2.2.2.1, ar_ rz cA 5 u.2.2.2.2.1, ar_ ra cA 5 u.2.2.2.2.2]) hx hb hml hown hts hK (m1_line l D cA h1 rf rn rx ry rz ra g1 g2 g3 g4 g5 g6 v hg (xs (i + 1)) (xs (i + 2)) (xs (i + 3)) (xs (i + 4)) (xs (i + 5))) (lw_V q167 q168 q169 q12 q170) (by decide +kernel) rfl ⟨rfl, rfl⟩ ⟨Nat.le_of_ble_eq_true rfl, Nat.le_of_ble_eq_true rfl⟩ ⟨Nat.le_refl _, Nat.le_refl _⟩ hP hD hS hA [8, 9, 10, 11, 12, 13, 14] [0, 1, 2, 3, 4, 5, 6, 7] [0, 1, 2, 3, 4, 5, 6, 7, 8, 9, 10, 11, 12, 13, 14] rfl rfl rfl rfl (by decide) (by decide) (by decide) (by decide) (fun _ => rfl) hl.1 rfl (Nat.le_of_ble_eq_true rfl) dL_law_147 (fun u H locs hw hP hD hS => ?_)
        obtain ⟨c1, c2, c3, c4, c5, c6⟩ := u
        have hP : va_P D wk_Cl [o0_ h0 qr qn qw qa qb qc qx, ar_ qr cA 20 a1, ar_ qn cA 5 a2, ar_ qw cA 10 a3, ar_ qa cA 5 a4, ar_ qb cA 5 a5, ar_ qc cA 5 a6, ar_ qx cA 5 a7, o1_ h1 rf rn rx ry rz ra, ar_ rf cA 20 c1, ar_ rn cA 5 c2, ar_ rx cA 5 c3, ar_ ry cA 5 c4, ar_ rz cA 5 c5, ar_ ra cA 5 c6] H := hP
        have hD : va_D A [o0_ h0 qr qn qw qa qb qc qx, ar_ qr cA 20 a1, ar_ qn cA 5 a2, ar_ qw cA 10 a3, ar_ qa cA 5 a4, ar_ qb cA 5 a5, ar_ qc cA 5 a6, ar_ qx cA 5 a7, o1_ h1 rf rn rx ry rz ra, ar_ rf cA 20 c1, ar_ rn cA 5 c2, ar_ rx cA 5 c3, ar_ ry cA 5 c4, ar_ rz cA 5 c5, ar_ ra cA 5 c6] := hD
        refine lv_goto (tgt := 479) hx hb dL_law_150 (by decide) ?_
        obtain ⟨hu1, hu2, hu3⟩ := hu
        obtain ⟨hw1, hw2⟩ := hw
        have hu1 : rgs_ a1 v := hu1
        have hw1 : rgs_ c1 v := hw1
        have hu2 : a2 = ln_ f2 (xs (i + 1)) (xs (i + 2)) (xs (i + 3)) (xs (i + 4)) (xs (i + 5)) := hu2
        have hw2 : c2 = ln_ g2 (xs (i + 1)) (xs (i + 2)) (xs (i + 3)) (xs (i + 4)) (xs (i + 5)) := hw2
        have hu3 : a7 = f7 := hu3
        exact k479 a1 a2 a3 a4 a5 a6 a7 c1 c2 c3 c4 c5 c6 v hu1 hw1 (by rw [hw2, hu2, hline]) (hu3 ▸ hroot) _ _ _ hP hD hS (lv_sub hl [0, 1, 2, 3] rfl)
      · refine lv_tableIn (off := 120) (tgt := 153) hx hb dL_law_33 (by decide) (by decide) (by decide +kernel) (by decide) ?_
        refine lv_aload_n hx hb dL_law_153 rfl (lv_at hl 2 rfl) ?_
        refine lv_aload_n hx hb dL_law_154 rfl (lv_at hl 1 rfl) ?_
        refine lv_iload_n hx hb dL_law_155 rfl (lv_at hl 0 rfl) ?_
        refine lv_iconst (v := nI 1) hx hb dL_law_156 (by decide) ?_
        refine lv_iadd hx hb dL_law_157 ?_
        refine ti_ (nI (i + 1)) (nI_add _ _) ?_
        refine sa_ hx hb hX hbl hbA hS (i + 1) rfl (by omega) (by omega) dL_law_158 ?_
        refine cv_V (ci := 0) (n := 1) (As := [.int (xs (i + 1))]) (rest := []) (wr := [o1_ h1 rf rn rx ry rz ra, ar_ rf cA 20 g1, ar_ rn cA 5 g2, ar_ rx cA 5 g3, ar_ ry cA 5 g4, ar_ rz cA 5 g5, ar_ ra cA 5 g6]) (w2 := fun u : (Nat → Int64) × (Nat → Int64) × (Nat → Int64) × (Nat → Int64) × (Nat → Int64) × (Nat → Int64) × (Nat → Int64) => [o0_ h0 qr qn qw qa qb qc qx, ar_ qr cA 20 u.1, ar_ qn cA 5 u.2.1, ar_ qw cA 10 u.2.2.1, ar_ qa cA 5 u.2.2.2.1, ar_ qb cA 5 u.2.2.2.2.1, ar_ qc cA 5 u.2.2.2.2.2.1, ar_ qx cA 5 u.2.2.2.2.2.2, o1_ h1 rf rn rx ry rz ra, ar_ rf cA 20 g1, ar_ rn cA 5 g2, ar_ rx cA 5 g3, ar_ ry cA 5 g4, ar_ rz cA 5 g5, ar_ ra cA 5 g6]) hx hb hml hown hts hK (m0_load l D cA h0 qr qn qw qa qb qc qx f1 f2 f3 f4 f5 f6 f7 v hf (xs (i + 1))) (lw_V q71 q72 q73 q11 q74) (by decide +kernel) rfl ⟨rfl, rfl⟩ ⟨Nat.le_of_ble_eq_true rfl, Nat.le_of_ble_eq_true rfl⟩ ⟨Nat.le_refl _, Nat.le_refl _⟩ hP hD hS hA [0, 1, 2, 3, 4, 5, 6, 7] [8, 9, 10, 11, 12, 13, 14] [7, 8, 9, 10, 11, 12, 13, 14, 0, 1, 2, 3, 4, 5, 6] rfl rfl rfl rfl (by decide) (by decide) (by decide) (by decide) (fun _ => rfl) hl.1 rfl (Nat.le_of_ble_eq_true rfl) dL_law_159 (fun u H locs hu hP hD hS => ?_)
        obtain ⟨a1, a2, a3, a4, a5, a6, a7⟩ := u
        have hP : va_P D wk_Cl [o0_ h0 qr qn qw qa qb qc qx, ar_ qr cA 20 a1, ar_ qn cA 5 a2, ar_ qw cA 10 a3, ar_ qa cA 5 a4, ar_ qb cA 5 a5, ar_ qc cA 5 a6, ar_ qx cA 5 a7, o1_ h1 rf rn rx ry rz ra, ar_ rf cA 20 g1, ar_ rn cA 5 g2, ar_ rx cA 5 g3, ar_ ry cA 5 g4, ar_ rz cA 5 g5, ar_ ra cA 5 g6] H := hP
        have hD : va_D A [o0_ h0 qr qn qw qa qb qc qx, ar_ qr cA 20 a1, ar_ qn cA 5 a2, ar_ qw cA 10 a3, ar_ qa cA 5 a4, ar_ qb cA 5 a5, ar_ qc cA 5 a6, ar_ qx cA 5 a7, o1_ h1 rf rn rx ry rz ra, ar_ rf cA 20 g1, ar_ rn cA 5 g2, ar_ rx cA 5 g3, ar_ ry cA 5 g4, ar_ rz cA 5 g5, ar_ ra cA 5 g6] := hD
        refine lv_aload_n hx hb dL_law_162 rfl (lv_at hl 3 rfl) ?_
        refine lv_aload_n hx hb dL_law_163 rfl (lv_at hl 1 rfl) ?_
        refine lv_iload_n hx hb dL_law_164 rfl (lv_at hl 0 rfl) ?_
        refine lv_iconst (v := nI 1) hx hb dL_law_165 (by decide) ?_
        refine lv_iadd hx hb dL_law_166 ?_
        refine ti_ (nI (i + 1)) (nI_add _ _) ?_
        refine sa_ hx hb hX hbl hbA hS (i + 1) rfl (by omega) (by omega) dL_law_167 ?_
        refine cv_V (ci := 1) (n := 1) (As := [.int (xs (i + 1))]) (rest := []) (wr := [o0_ h0 qr qn qw qa qb qc qx, ar_ qr cA 20 a1, ar_ qn cA 5 a2, ar_ qw cA 10 a3, ar_ qa cA 5 a4, ar_ qb cA 5 a5, ar_ qc cA 5 a6, ar_ qx cA 5 a7]) (w2 := fun u : (Nat → Int64) × (Nat → Int64) × (Nat → Int64) × (Nat → Int64) × (Nat → Int64) × (Nat → Int64) => [o0_ h0 qr qn qw qa qb qc qx, ar_ qr cA 20 a1, ar_ qn cA 5 a2, ar_ qw cA 10 a3, ar_ qa cA 5 a4, ar_ qb cA 5 a5, ar_ qc cA 5 a6, ar_ qx cA 5 a7, o1_ h1 rf rn rx ry rz ra, ar_ rf cA 20 u.1, ar_ rn cA 5 u.2.1, ar_ rx cA 5 u.2.2.1, ar_ ry cA 5 u.2.2.2.1, ar_ rz cA 5 u.2.2.2.2.1, ar_ ra cA 5 u.2.2.2.2.2]) hx hb hml hown hts hK (m1_load l D cA h1 rf rn rx ry rz ra g1 g2 g3 g4 g5 g6 v hg (xs (i + 1))) (lw_V q173 q174 q175 q12 q176) (by decide +kernel) rfl ⟨rfl, rfl⟩ ⟨Nat.le_of_ble_eq_true rfl, Nat.le_of_ble_eq_true rfl⟩ ⟨Nat.le_refl _, Nat.le_refl _⟩ hP hD hS hA [8, 9, 10, 11, 12, 13, 14] [0, 1, 2, 3, 4, 5, 6, 7] [0, 1, 2, 3, 4, 5, 6, 7, 8, 9, 10, 11, 12, 13, 14] rfl rfl rfl rfl (by decide) (by decide) (by decide) (by decide) (fun _ => rfl) hl.1 rfl (Nat.le_of_ble_eq_true rfl) dL_law_168 (fun u H locs hw hP hD hS => ?_)
        obtain ⟨c1, c2, c3, c4, c5, c6⟩ := u
        have hP : va_P D wk_Cl [o0_ h0 qr qn qw qa qb qc qx, ar_ qr cA 20 a1, ar_ qn cA 5 a2, ar_ qw cA 10 a3, ar_ qa cA 5 a4, ar_ qb cA 5 a5, ar_ qc cA 5 a6, ar_ qx cA 5 a7, o1_ h1 rf rn rx ry rz ra, ar_ rf cA 20 c1, ar_ rn cA 5 c2, ar_ rx cA 5 c3, ar_ ry cA 5 c4, ar_ rz cA 5 c5, ar_ ra cA 5 c6] H := hP
        have hD : va_D A [o0_ h0 qr qn qw qa qb qc qx, ar_ qr cA 20 a1, ar_ qn cA 5 a2, ar_ qw cA 10 a3, ar_ qa cA 5 a4, ar_ qb cA 5 a5, ar_ qc cA 5 a6, ar_ qx cA 5 a7, o1_ h1 rf rn rx ry rz ra, ar_ rf cA 20 c1, ar_ rn cA 5 c2, ar_ rx cA 5 c3, ar_ ry cA 5 c4, ar_ rz cA 5 c5, ar_ ra cA 5 c6] := hD
        refine lv_goto (tgt := 479) hx hb dL_law_171 (by decide) ?_
        obtain ⟨hu1, hu2, hu3⟩ := hu
        obtain ⟨hw1, hw2⟩ := hw
        have hu1 : rgs_ a1 (up_ v (rg_ (xs (i + 1))) (gl_ f2)) := hu1
        have hw1 : rgs_ c1 (up_ v (rg_ (xs (i + 1))) (gl_ g2)) := hw1
        rw [hline] at hw1
        have hu2 : a2 = f2 := hu2
        have hw2 : c2 = g2 := hw2
        have hu3 : a7 = f7 := hu3
        exact k479 a1 a2 a3 a4 a5 a6 a7 c1 c2 c3 c4 c5 c6 (up_ v (rg_ (xs (i + 1))) (gl_ f2)) hu1 hw1 (by rw [hw2, hu2, hline]) (hu3 ▸ hroot) _ _ _ hP hD hS (lv_sub hl [0, 1, 2, 3] rfl)
      · refine lv_tableIn (off := 141) (tgt := 174) hx hb dL_law_33 (by decide) (by decide) (by decide +kernel) (by decide) ?_
        refine lv_aload_n hx hb dL_law_174 rfl (lv_at hl 2 rfl) ?_
        refine lv_aload_n hx hb dL_law_175 rfl (lv_at hl 1 rfl) ?_
        refine lv_iload_n hx hb dL_law_176 rfl (lv_at hl 0 rfl) ?_
        refine lv_iconst (v := nI 1) hx hb dL_law_177 (by decide) ?_
        refine lv_iadd hx hb dL_law_178 ?_
        refine ti_ (nI (i + 1)) (nI_add _ _) ?_
        refine sa_ hx hb hX hbl hbA hS (i + 1) rfl (by omega) (by omega) dL_law_179 ?_
        refine lv_aload_n hx hb dL_law_180 rfl (lv_at hl 1 rfl) ?_
        refine lv_iload_n hx hb dL_law_181 rfl (lv_at hl 0 rfl) ?_
        refine lv_iconst (v := nI 2) hx hb dL_law_182 (by decide) ?_
        refine lv_iadd hx hb dL_law_183 ?_
        refine ti_ (nI (i + 2)) (nI_add _ _) ?_
        refine sa_ hx hb hX hbl hbA hS (i + 2) rfl (by omega) (by omega) dL_law_184 ?_
        refine cv_I (ci := 0) (n := 2) (As := [.int (xs (i + 1)), .int (xs (i + 2))]) (rest := []) (wr := [o1_ h1 rf rn rx ry rz ra, ar_ rf cA 20 g1, ar_ rn cA 5 g2, ar_ rx cA 5 g3, ar_ ry cA 5 g4, ar_ rz cA 5 g5, ar_ ra cA 5 g6]) (w2 := fun u : Unit => [o0_ h0 qr qn qw qa qb qc qx, ar_ qr cA 20 f1, ar_ qn cA 5 f2, ar_ qw cA 10 f3, ar_ qa cA 5 f4, ar_ qb cA 5 f5, ar_ qc cA 5 f6, ar_ qx cA 5 f7, o1_ h1 rf rn rx ry rz ra, ar_ rf cA 20 g1, ar_ rn cA 5 g2, ar_ rx cA 5 g3, ar_ ry cA 5 g4, ar_ rz cA 5 g5, ar_ ra cA 5 g6]) hx hb hml hown hts hK (m0_word l D cA h0 qr qn qw qa qb qc qx f1 f2 f3 f4 f5 f6 f7 v hf (xs (i + 1)) (xs (i + 2))) (lw_V q82 q83 q84 q11 q85) (by decide +kernel) rfl ⟨rfl, rfl⟩ ⟨Nat.le_of_ble_eq_true rfl, Nat.le_of_ble_eq_true rfl⟩ ⟨Nat.le_refl _, Nat.le_refl _⟩ hP hD hS hA [0, 1, 2, 3, 4, 5, 6, 7] [8, 9, 10, 11, 12, 13, 14] [7, 8, 9, 10, 11, 12, 13, 14, 0, 1, 2, 3, 4, 5, 6] rfl rfl rfl rfl (by decide) (by decide) (by decide) (by decide) (fun _ => rfl) hl.1 rfl (Nat.le_of_ble_eq_true rfl) dL_law_185 (fun r0 u H locs hu hP hD hS => ?_)
        have hP : va_P D wk_Cl [o0_ h0 qr qn qw qa qb qc qx, ar_ qr cA 20 f1, ar_ qn cA 5 f2, ar_ qw cA 10 f3, ar_ qa cA 5 f4, ar_ qb cA 5 f5, ar_ qc cA 5 f6, ar_ qx cA 5 f7, o1_ h1 rf rn rx ry rz ra, ar_ rf cA 20 g1, ar_ rn cA 5 g2, ar_ rx cA 5 g3, ar_ ry cA 5 g4, ar_ rz cA 5 g5, ar_ ra cA 5 g6] H := hP
        have hD : va_D A [o0_ h0 qr qn qw qa qb qc qx, ar_ qr cA 20 f1, ar_ qn cA 5 f2, ar_ qw cA 10 f3, ar_ qa cA 5 f4, ar_ qb cA 5 f5, ar_ qc cA 5 f6, ar_ qx cA 5 f7, o1_ h1 rf rn rx ry rz ra, ar_ rf cA 20 g1, ar_ rn cA 5 g2, ar_ rx cA 5 g3, ar_ ry cA 5 g4, ar_ rz cA 5 g5, ar_ ra cA 5 g6] := hD
        refine lv_aload_n hx hb dL_law_188 rfl (lv_at hl 3 rfl) ?_
        refine lv_aload_n hx hb dL_law_189 rfl (lv_at hl 1 rfl) ?_
        refine lv_iload_n hx hb dL_law_190 rfl (lv_at hl 0 rfl) ?_
        refine lv_iconst (v := nI 1) hx hb dL_law_191 (by decide) ?_
        refine lv_iadd hx hb dL_law_192 ?_
        refine ti_ (nI (i + 1)) (nI_add _ _) ?_
        refine sa_ hx hb hX hbl hbA hS (i + 1) rfl (by omega) (by omega) dL_law_193 ?_
        refine lv_aload_n hx hb dL_law_194 rfl (lv_at hl 1 rfl) ?_
        refine lv_iload_n hx hb dL_law_195 rfl (lv_at hl 0 rfl) ?_
        refine lv_iconst (v := nI 2) hx hb dL_law_196 (by decide) ?_
        refine lv_iadd hx hb dL_law_197 ?_
        refine ti_ (nI (i + 2)) (nI_add _ _) ?_
        refine sa_ hx hb hX hbl hbA hS (i + 2) rfl (by omega) (by omega) dL_law_198 ?_
        refine cv_I (ci := 1) (n := 2) (As := [.int (xs (i + 1)), .int (xs (i + 2))]) (rest := [.int r0]) (wr := [o0_ h0 qr qn qw qa qb qc qx, ar_ qr cA 20 f1, ar_ qn cA 5 f2, ar_ qw cA 10 f3, ar_ qa cA 5 f4, ar_ qb cA 5 f5, ar_ qc cA 5 f6, ar_ qx cA 5 f7]) (w2 := fun u : Unit => [o0_ h0 qr qn qw qa qb qc qx, ar_ qr cA 20 f1, ar_ qn cA 5 f2, ar_ qw cA 10 f3, ar_ qa cA 5 f4, ar_ qb cA 5 f5, ar_ qc cA 5 f6, ar_ qx cA 5 f7, o1_ h1 rf rn rx ry rz ra, ar_ rf cA 20 g1, ar_ rn cA 5 g2, ar_ rx cA 5 g3, ar_ ry cA 5 g4, ar_ rz cA 5 g5, ar_ ra cA 5 g6]) hx hb hml hown hts hK (m1_word l D cA h1 rf rn rx ry rz ra g1 g2 g3 g4 g5 g6 v hg (xs (i + 1)) (xs (i + 2))) (lw_V q185 q186 q187 q12 q188) (by decide +kernel) rfl ⟨rfl, rfl⟩ ⟨Nat.le_of_ble_eq_true rfl, Nat.le_of_ble_eq_true rfl⟩ ⟨Nat.le_refl _, Nat.le_refl _⟩ hP hD hS hA [8, 9, 10, 11, 12, 13, 14] [0, 1, 2, 3, 4, 5, 6, 7] [0, 1, 2, 3, 4, 5, 6, 7, 8, 9, 10, 11, 12, 13, 14] rfl rfl rfl rfl (by decide) (by decide) (by decide) (by decide) (fun _ => rfl) hl.1 rfl (Nat.le_of_ble_eq_true rfl) dL_law_199 (fun r1 u H locs hw hP hD hS => ?_)
        have hP : va_P D wk_Cl [o0_ h0 qr qn qw qa qb qc qx, ar_ qr cA 20 f1, ar_ qn cA 5 f2, ar_ qw cA 10 f3, ar_ qa cA 5 f4, ar_ qb cA 5 f5, ar_ qc cA 5 f6, ar_ qx cA 5 f7, o1_ h1 rf rn rx ry rz ra, ar_ rf cA 20 g1, ar_ rn cA 5 g2, ar_ rx cA 5 g3, ar_ ry cA 5 g4, ar_ rz cA 5 g5, ar_ ra cA 5 g6] H := hP
        have hD : va_D A [o0_ h0 qr qn qw qa qb qc qx, ar_ qr cA 20 f1, ar_ qn cA 5 f2, ar_ qw cA 10 f3, ar_ qa cA 5 f4, ar_ qb cA 5 f5, ar_ qc cA 5 f6, ar_ qx cA 5 f7, o1_ h1 rf rn rx ry rz ra, ar_ rf cA 20 g1, ar_ rn cA 5 g2, ar_ rx cA 5 g3, ar_ ry cA 5 g4, ar_ rz cA 5 g5, ar_ ra cA 5 g6] := hD
        refine lv_icmp_eq (tgt := 479) hx hb dL_law_202 (by decide) (fun _ => ?_) (fun hc => absurd (hu.trans hw.symm) hc)
        exact k479 f1 f2 f3 f4 f5 f6 f7 g1 g2 g3 g4 g5 g6 v hf hg hline hroot _ _ _ hP hD hS (lv_sub hl [0, 1, 2, 3] rfl)
      · refine lv_tableIn (off := 174) (tgt := 207) hx hb dL_law_33 (by decide) (by decide) (by decide +kernel) (by decide) ?_
        refine lv_aload_n hx hb dL_law_207 rfl (lv_at hl 2 rfl) ?_
        refine lv_aload_n hx hb dL_law_208 rfl (lv_at hl 1 rfl) ?_
        refine lv_iload_n hx hb dL_law_209 rfl (lv_at hl 0 rfl) ?_
        refine lv_iconst (v := nI 1) hx hb dL_law_210 (by decide) ?_
        refine lv_iadd hx hb dL_law_211 ?_
        refine ti_ (nI (i + 1)) (nI_add _ _) ?_
        refine sa_ hx hb hX hbl hbA hS (i + 1) rfl (by omega) (by omega) dL_law_212 ?_
        refine lv_aload_n hx hb dL_law_213 rfl (lv_at hl 1 rfl) ?_
        refine lv_iload_n hx hb dL_law_214 rfl (lv_at hl 0 rfl) ?_
        refine lv_iconst (v := nI 2) hx hb dL_law_215 (by decide) ?_
        refine lv_iadd hx hb dL_law_216 ?_
        refine ti_ (nI (i + 2)) (nI_add _ _) ?_
        refine sa_ hx hb hX hbl hbA hS (i + 2) rfl (by omega) (by omega) dL_law_217 ?_
        refine lv_aload_n hx hb dL_law_218 rfl (lv_at hl 1 rfl) ?_
        refine lv_iload_n hx hb dL_law_219 rfl (lv_at hl 0 rfl) ?_
        refine lv_iconst (v := nI 3) hx hb dL_law_220 (by decide) ?_
        refine lv_iadd hx hb dL_law_221 ?_
        refine ti_ (nI (i + 3)) (nI_add _ _) ?_
        refine sa_ hx hb hX hbl hbA hS (i + 3) rfl (by omega) (by omega) dL_law_222 ?_
        refine cv_V (ci := 0) (n := 3) (As := [.int (xs (i + 1)), .int (xs (i + 2)), .int (xs (i + 3))]) (rest := []) (wr := [o1_ h1 rf rn rx ry rz ra, ar_ rf cA 20 g1, ar_ rn cA 5 g2, ar_ rx cA 5 g3, ar_ ry cA 5 g4, ar_ rz cA 5 g5, ar_ ra cA 5 g6]) (w2 := fun u : (Nat → Int64) × (Nat → Int64) × (Nat → Int64) × (Nat → Int64) × (Nat → Int64) × (Nat → Int64) × (Nat → Int64) => [o0_ h0 qr qn qw qa qb qc qx, ar_ qr cA 20 u.1, ar_ qn cA 5 u.2.1, ar_ qw cA 10 u.2.2.1, ar_ qa cA 5 u.2.2.2.1, ar_ qb cA 5 u.2.2.2.2.1, ar_ qc cA 5 u.2.2.2.2.2.1, ar_ qx cA 5 u.2.2.2.2.2.2, o1_ h1 rf rn rx ry rz ra, ar_ rf cA 20 g1, ar_ rn cA 5 g2, ar_ rx cA 5 g3, ar_ ry cA 5 g4, ar_ rz cA 5 g5, ar_ ra cA 5 g6]) hx hb hml hown hts hK (m0_add l D cA h0 qr qn qw qa qb qc qx f1 f2 f3 f4 f5 f6 f7 v hf (xs (i + 1)) (xs (i + 2)) (xs (i + 3))) (lw_V q87 q88 q89 q11 q90) (by decide +kernel) rfl ⟨rfl, rfl⟩ ⟨Nat.le_of_ble_eq_true rfl, Nat.le_of_ble_eq_true rfl⟩ ⟨Nat.le_refl _, Nat.le_refl _⟩ hP hD hS hA [0, 1, 2, 3, 4, 5, 6, 7] [8, 9, 10, 11, 12, 13, 14] [7, 8, 9, 10, 11, 12, 13, 14, 0, 1, 2, 3, 4, 5, 6] rfl rfl rfl rfl (by decide) (by decide) (by decide) (by decide) (fun _ => rfl) hl.1 rfl (Nat.le_of_ble_eq_true rfl) dL_law_223 (fun u H locs hu hP hD hS => ?_)
        obtain ⟨a1, a2, a3, a4, a5, a6, a7⟩ := u
        have hP : va_P D wk_Cl [o0_ h0 qr qn qw qa qb qc qx, ar_ qr cA 20 a1, ar_ qn cA 5 a2, ar_ qw cA 10 a3, ar_ qa cA 5 a4, ar_ qb cA 5 a5, ar_ qc cA 5 a6, ar_ qx cA 5 a7, o1_ h1 rf rn rx ry rz ra, ar_ rf cA 20 g1, ar_ rn cA 5 g2, ar_ rx cA 5 g3, ar_ ry cA 5 g4, ar_ rz cA 5 g5, ar_ ra cA 5 g6] H := hP
        have hD : va_D A [o0_ h0 qr qn qw qa qb qc qx, ar_ qr cA 20 a1, ar_ qn cA 5 a2, ar_ qw cA 10 a3, ar_ qa cA 5 a4, ar_ qb cA 5 a5, ar_ qc cA 5 a6, ar_ qx cA 5 a7, o1_ h1 rf rn rx ry rz ra, ar_ rf cA 20 g1, ar_ rn cA 5 g2, ar_ rx cA 5 g3, ar_ ry cA 5 g4, ar_ rz cA 5 g5, ar_ ra cA 5 g6] := hD
        refine lv_aload_n hx hb dL_law_226 rfl (lv_at hl 3 rfl) ?_
        refine lv_aload_n hx hb dL_law_227 rfl (lv_at hl 1 rfl) ?_
        refine lv_iload_n hx hb dL_law_228 rfl (lv_at hl 0 rfl) ?_
        refine lv_iconst (v := nI 1) hx hb dL_law_229 (by decide) ?_
        refine lv_iadd hx hb dL_law_230 ?_
        refine ti_ (nI (i + 1)) (nI_add _ _) ?_
        refine sa_ hx hb hX hbl hbA hS (i + 1) rfl (by omega) (by omega) dL_law_231 ?_
        refine lv_aload_n hx hb dL_law_232 rfl (lv_at hl 1 rfl) ?_
        refine lv_iload_n hx hb dL_law_233 rfl (lv_at hl 0 rfl) ?_
        refine lv_iconst (v := nI 2) hx hb dL_law_234 (by decide) ?_
        refine lv_iadd hx hb dL_law_235 ?_
        refine ti_ (nI (i + 2)) (nI_add _ _) ?_
        refine sa_ hx hb hX hbl hbA hS (i + 2) rfl (by omega) (by omega) dL_law_236 ?_
        refine lv_aload_n hx hb dL_law_237 rfl (lv_at hl 1 rfl) ?_
        refine lv_iload_n hx hb dL_law_238 rfl (lv_at hl 0 rfl) ?_
        refine lv_iconst (v := nI 3) hx hb dL_law_239 (by decide) ?_
        refine lv_iadd hx hb dL_law_240 ?_
        refine ti_ (nI (i + 3)) (nI_add _ _) ?_
        refine sa_ hx hb hX hbl hbA hS (i + 3) rfl (by omega) (by omega) dL_law_241 ?_
        refine cv_V (ci := 1) (n := 3) (As := [.int (xs (i + 1)), .int (xs (i + 2)), .int (xs (i + 3))]) (rest := []) (wr := [o0_ h0 qr qn qw qa qb qc qx, ar_ qr cA 20 a1, ar_ qn cA 5 a2, ar_ qw cA 10 a3, ar_ qa cA 5 a4, ar_ qb cA 5 a5, ar_ qc cA 5 a6, ar_ qx cA 5 a7]) (w2 := fun u : (Nat → Int64) × (Nat → Int64) × (Nat → Int64) × (Nat → Int64) × (Nat → Int64) × (Nat → Int64) => [o0_ h0 qr qn qw qa qb qc qx, ar_ qr cA 20 a1, ar_ qn cA 5 a2, ar_ qw cA 10 a3, ar_ qa cA 5 a4, ar_ qb cA 5 a5, ar_ qc cA 5 a6, ar_ qx cA 5 a7, o1_ h1 rf rn rx ry rz ra, ar_ rf cA 20 u.1, ar_ rn cA 5 u.2.1, ar_ rx cA 5 u.2.2.1, ar_ ry cA 5 u.2.2.2.1, ar_ rz cA 5 u.2.2.2.2.1, ar_ ra cA 5 u.2.2.2.2.2]) hx hb hml hown hts hK (m1_add l D cA h1 rf rn rx ry rz ra g1 g2 g3 g4 g5 g6 v hg (xs (i + 1)) (xs (i + 2)) (xs (i + 3))) (lw_V q190 q191 q192 q12 q193) (by decide +kernel) rfl ⟨rfl, rfl⟩ ⟨Nat.le_of_ble_eq_true rfl, Nat.le_of_ble_eq_true rfl⟩ ⟨Nat.le_refl _, Nat.le_refl _⟩ hP hD hS hA [8, 9, 10, 11, 12, 13, 14] [0, 1, 2, 3, 4, 5, 6, 7] [0, 1, 2, 3, 4, 5, 6, 7, 8, 9, 10, 11, 12, 13, 14] rfl rfl rfl rfl (by decide) (by decide) (by decide) (by decide) (fun _ => rfl) hl.1 rfl (Nat.le_of_ble_eq_true rfl) dL_law_242 (fun u H locs hw hP hD hS => ?_)
        obtain ⟨c1, c2, c3, c4, c5, c6⟩ := u
        have hP : va_P D wk_Cl [o0_ h0 qr qn qw qa qb qc qx, ar_ qr cA 20 a1, ar_ qn cA 5 a2, ar_ qw cA 10 a3, ar_ qa cA 5 a4, ar_ qb cA 5 a5, ar_ qc cA 5 a6, ar_ qx cA 5 a7, o1_ h1 rf rn rx ry rz ra, ar_ rf cA 20 c1, ar_ rn cA 5 c2, ar_ rx cA 5 c3, ar_ ry cA 5 c4, ar_ rz cA 5 c5, ar_ ra cA 5 c6] H := hP
        have hD : va_D A [o0_ h0 qr qn qw qa qb qc qx, ar_ qr cA 20 a1, ar_ qn cA 5 a2, ar_ qw cA 10 a3, ar_ qa cA 5 a4, ar_ qb cA 5 a5, ar_ qc cA 5 a6, ar_ qx cA 5 a7, o1_ h1 rf rn rx ry rz ra, ar_ rf cA 20 c1, ar_ rn cA 5 c2, ar_ rx cA 5 c3, ar_ ry cA 5 c4, ar_ rz cA 5 c5, ar_ ra cA 5 c6] := hD
        refine lv_goto (tgt := 479) hx hb dL_law_245 (by decide) ?_
        obtain ⟨hu1, hu2, hu3⟩ := hu
        obtain ⟨hw1, hw2⟩ := hw
        have hu1 : rgs_ a1 (up_ v (rg_ (xs (i + 1))) (v (rg_ (xs (i + 2))) ^^^ v (rg_ (xs (i + 3))))) := hu1
        have hw1 : rgs_ c1 (up_ v (rg_ (xs (i + 1))) (v (rg_ (xs (i + 2))) ^^^ v (rg_ (xs (i + 3))))) := hw1
        have hu2 : a2 = f2 := hu2
        have hw2 : c2 = g2 := hw2
        have hu3 : a7 = f7 := hu3
        exact k479 a1 a2 a3 a4 a5 a6 a7 c1 c2 c3 c4 c5 c6 (up_ v (rg_ (xs (i + 1))) (v (rg_ (xs (i + 2))) ^^^ v (rg_ (xs (i + 3))))) hu1 hw1 (by rw [hw2, hu2, hline]) (hu3 ▸ hroot) _ _ _ hP hD hS (lv_sub hl [0, 1, 2, 3] rfl)
      · refine lv_tableIn (off := 215) (tgt := 248) hx hb dL_law_33 (by decide) (by decide) (by decide +kernel) (by decide) ?_
        refine lv_aload_n hx hb dL_law_248 rfl (lv_at hl 2 rfl) ?_
        refine lv_aload_n hx hb dL_law_249 rfl (lv_at hl 1 rfl) ?_
        refine lv_iload_n hx hb dL_law_250 rfl (lv_at hl 0 rfl) ?_
        refine lv_iconst (v := nI 1) hx hb dL_law_251 (by decide) ?_
        refine lv_iadd hx hb dL_law_252 ?_
        refine ti_ (nI (i + 1)) (nI_add _ _) ?_
        refine sa_ hx hb hX hbl hbA hS (i + 1) rfl (by omega) (by omega) dL_law_253 ?_
        refine lv_aload_n hx hb dL_law_254 rfl (lv_at hl 1 rfl) ?_
        refine lv_iload_n hx hb dL_law_255 rfl (lv_at hl 0 rfl) ?_
        refine lv_iconst (v := nI 2) hx hb dL_law_256 (by decide) ?_
        refine lv_iadd hx hb dL_law_257 ?_
        refine ti_ (nI (i + 2)) (nI_add _ _) ?_
        refine sa_ hx hb hX hbl hbA hS (i + 2) rfl (by omega) (by omega) dL_law_258 ?_
        refine cv_V (ci := 0) (n := 2) (As := [.int (xs (i + 1)), .int (xs (i + 2))]) (rest := []) (wr := [o1_ h1 rf rn rx ry rz ra, ar_ rf cA 20 g1, ar_ rn cA 5 g2, ar_ rx cA 5 g3, ar_ ry cA 5 g4, ar_ rz cA 5 g5, ar_ ra cA 5 g6]) (w2 := fun u : (Nat → Int64) × (Nat → Int64) × (Nat → Int64) × (Nat → Int64) × (Nat → Int64) × (Nat → Int64) × (Nat → Int64) => [o0_ h0 qr qn qw qa qb qc qx, ar_ qr cA 20 u.1, ar_ qn cA 5 u.2.1, ar_ qw cA 10 u.2.2.1, ar_ qa cA 5 u.2.2.2.1, ar_ qb cA 5 u.2.2.2.2.1, ar_ qc cA 5 u.2.2.2.2.2.1, ar_ qx cA 5 u.2.2.2.2.2.2, o1_ h1 rf rn rx ry rz ra, ar_ rf cA 20 g1, ar_ rn cA 5 g2, ar_ rx cA 5 g3, ar_ ry cA 5 g4, ar_ rz cA 5 g5, ar_ ra cA 5 g6]) hx hb hml hown hts hK (m0_addOne l D cA h0 qr qn qw qa qb qc qx f1 f2 f3 f4 f5 f6 f7 v hf (xs (i + 1)) (xs (i + 2))) (lw_V q95 q96 q97 q11 q98) (by decide +kernel) rfl ⟨rfl, rfl⟩ ⟨Nat.le_of_ble_eq_true rfl, Nat.le_of_ble_eq_true rfl⟩ ⟨Nat.le_refl _, Nat.le_refl _⟩ hP hD hS hA [0, 1, 2, 3, 4, 5, 6, 7] [8, 9, 10, 11, 12, 13, 14] [7, 8, 9, 10, 11, 12, 13, 14, 0, 1, 2, 3, 4, 5, 6] rfl rfl rfl rfl (by decide) (by decide) (by decide) (by decide) (fun _ => rfl) hl.1 rfl (Nat.le_of_ble_eq_true rfl) dL_law_259 (fun u H locs hu hP hD hS => ?_)
        obtain ⟨a1, a2, a3, a4, a5, a6, a7⟩ := u
        have hP : va_P D wk_Cl [o0_ h0 qr qn qw qa qb qc qx, ar_ qr cA 20 a1, ar_ qn cA 5 a2, ar_ qw cA 10 a3, ar_ qa cA 5 a4, ar_ qb cA 5 a5, ar_ qc cA 5 a6, ar_ qx cA 5 a7, o1_ h1 rf rn rx ry rz ra, ar_ rf cA 20 g1, ar_ rn cA 5 g2, ar_ rx cA 5 g3, ar_ ry cA 5 g4, ar_ rz cA 5 g5, ar_ ra cA 5 g6] H := hP
        have hD : va_D A [o0_ h0 qr qn qw qa qb qc qx, ar_ qr cA 20 a1, ar_ qn cA 5 a2, ar_ qw cA 10 a3, ar_ qa cA 5 a4, ar_ qb cA 5 a5, ar_ qc cA 5 a6, ar_ qx cA 5 a7, o1_ h1 rf rn rx ry rz ra, ar_ rf cA 20 g1, ar_ rn cA 5 g2, ar_ rx cA 5 g3, ar_ ry cA 5 g4, ar_ rz cA 5 g5, ar_ ra cA 5 g6] := hD
        refine lv_aload_n hx hb dL_law_262 rfl (lv_at hl 3 rfl) ?_
        refine lv_aload_n hx hb dL_law_263 rfl (lv_at hl 1 rfl) ?_
        refine lv_iload_n hx hb dL_law_264 rfl (lv_at hl 0 rfl) ?_
        refine lv_iconst (v := nI 1) hx hb dL_law_265 (by decide) ?_
        refine lv_iadd hx hb dL_law_266 ?_
        refine ti_ (nI (i + 1)) (nI_add _ _) ?_
        refine sa_ hx hb hX hbl hbA hS (i + 1) rfl (by omega) (by omega) dL_law_267 ?_
        refine lv_aload_n hx hb dL_law_268 rfl (lv_at hl 1 rfl) ?_
        refine lv_iload_n hx hb dL_law_269 rfl (lv_at hl 0 rfl) ?_
        refine lv_iconst (v := nI 2) hx hb dL_law_270 (by decide) ?_
        refine lv_iadd hx hb dL_law_271 ?_
        refine ti_ (nI (i + 2)) (nI_add _ _) ?_
        refine sa_ hx hb hX hbl hbA hS (i + 2) rfl (by omega) (by omega) dL_law_272 ?_
        refine cv_V (ci := 1) (n := 2) (As := [.int (xs (i + 1)), .int (xs (i + 2))]) (rest := []) (wr := [o0_ h0 qr qn qw qa qb qc qx, ar_ qr cA 20 a1, ar_ qn cA 5 a2, ar_ qw cA 10 a3, ar_ qa cA 5 a4, ar_ qb cA 5 a5, ar_ qc cA 5 a6, ar_ qx cA 5 a7]) (w2 := fun u : (Nat → Int64) × (Nat → Int64) × (Nat → Int64) × (Nat → Int64) × (Nat → Int64) × (Nat → Int64) => [o0_ h0 qr qn qw qa qb qc qx, ar_ qr cA 20 a1, ar_ qn cA 5 a2, ar_ qw cA 10 a3, ar_ qa cA 5 a4, ar_ qb cA 5 a5, ar_ qc cA 5 a6, ar_ qx cA 5 a7, o1_ h1 rf rn rx ry rz ra, ar_ rf cA 20 u.1, ar_ rn cA 5 u.2.1, ar_ rx cA 5 u.2.2.1, ar_ ry cA 5 u.2.2.2.1, ar_ rz cA 5 u.2.2.2.2.1, ar_ ra cA 5 u.2.2.2.2.2]) hx hb hml hown hts hK (m1_addOne l D cA h1 rf rn rx ry rz ra g1 g2 g3 g4 g5 g6 v hg (xs (i + 1)) (xs (i + 2))) (lw_V q198 q199 q200 q12 q201) (by decide +kernel) rfl ⟨rfl, rfl⟩ ⟨Nat.le_of_ble_eq_true rfl, Nat.le_of_ble_eq_true rfl⟩ ⟨Nat.le_refl _, Nat.le_refl _⟩ hP hD hS hA [8, 9, 10, 11, 12, 13, 14] [0, 1, 2, 3, 4, 5, 6, 7] [0, 1, 2, 3, 4, 5, 6, 7, 8, 9, 10, 11, 12, 13, 14] rfl rfl rfl rfl (by decide) (by decide) (by decide) (by decide) (fun _ => rfl) hl.1 rfl (Nat.le_of_ble_eq_true rfl) dL_law_273 (fun u H locs hw hP hD hS => ?_)
        obtain ⟨c1, c2, c3, c4, c5, c6⟩ := u
        have hP : va_P D wk_Cl [o0_ h0 qr qn qw qa qb qc qx, ar_ qr cA 20 a1, ar_ qn cA 5 a2, ar_ qw cA 10 a3, ar_ qa cA 5 a4, ar_ qb cA 5 a5, ar_ qc cA 5 a6, ar_ qx cA 5 a7, o1_ h1 rf rn rx ry rz ra, ar_ rf cA 20 c1, ar_ rn cA 5 c2, ar_ rx cA 5 c3, ar_ ry cA 5 c4, ar_ rz cA 5 c5, ar_ ra cA 5 c6] H := hP
        have hD : va_D A [o0_ h0 qr qn qw qa qb qc qx, ar_ qr cA 20 a1, ar_ qn cA 5 a2, ar_ qw cA 10 a3, ar_ qa cA 5 a4, ar_ qb cA 5 a5, ar_ qc cA 5 a6, ar_ qx cA 5 a7, o1_ h1 rf rn rx ry rz ra, ar_ rf cA 20 c1, ar_ rn cA 5 c2, ar_ rx cA 5 c3, ar_ ry cA 5 c4, ar_ rz cA 5 c5, ar_ ra cA 5 c6] := hD
        refine lv_goto (tgt := 479) hx hb dL_law_276 (by decide) ?_
        obtain ⟨hu1, hu2, hu3⟩ := hu
        obtain ⟨hw1, hw2⟩ := hw
        have hu1 : rgs_ a1 (up_ v (rg_ (xs (i + 1))) (v (rg_ (xs (i + 2))) ^^^ 1#283)) := hu1
        have hw1 : rgs_ c1 (up_ v (rg_ (xs (i + 1))) (v (rg_ (xs (i + 2))) ^^^ 1#283)) := hw1
        have hu2 : a2 = f2 := hu2
        have hw2 : c2 = g2 := hw2
        have hu3 : a7 = f7 := hu3
        exact k479 a1 a2 a3 a4 a5 a6 a7 c1 c2 c3 c4 c5 c6 (up_ v (rg_ (xs (i + 1))) (v (rg_ (xs (i + 2))) ^^^ 1#283)) hu1 hw1 (by rw [hw2, hu2, hline]) (hu3 ▸ hroot) _ _ _ hP hD hS (lv_sub hl [0, 1, 2, 3] rfl)
      · refine lv_tableIn (off := 246) (tgt := 279) hx hb dL_law_33 (by decide) (by decide) (by decide +kernel) (by decide) ?_
        refine lv_aload_n hx hb dL_law_279 rfl (lv_at hl 2 rfl) ?_
        refine lv_aload_n hx hb dL_law_280 rfl (lv_at hl 1 rfl) ?_
        refine lv_iload_n hx hb dL_law_281 rfl (lv_at hl 0 rfl) ?_
        refine lv_iconst (v := nI 1) hx hb dL_law_282 (by decide) ?_
        refine lv_iadd hx hb dL_law_283 ?_
        refine ti_ (nI (i + 1)) (nI_add _ _) ?_
        refine sa_ hx hb hX hbl hbA hS (i + 1) rfl (by omega) (by omega) dL_law_284 ?_
        refine lv_aload_n hx hb dL_law_285 rfl (lv_at hl 1 rfl) ?_
        refine lv_iload_n hx hb dL_law_286 rfl (lv_at hl 0 rfl) ?_
        refine lv_iconst (v := nI 2) hx hb dL_law_287 (by decide) ?_
        refine lv_iadd hx hb dL_law_288 ?_
        refine ti_ (nI (i + 2)) (nI_add _ _) ?_
        refine sa_ hx hb hX hbl hbA hS (i + 2) rfl (by omega) (by omega) dL_law_289 ?_
        refine lv_aload_n hx hb dL_law_290 rfl (lv_at hl 1 rfl) ?_
        refine lv_iload_n hx hb dL_law_291 rfl (lv_at hl 0 rfl) ?_
        refine lv_iconst (v := nI 3) hx hb dL_law_292 (by decide) ?_
        refine lv_iadd hx hb dL_law_293 ?_
        refine ti_ (nI (i + 3)) (nI_add _ _) ?_
        refine sa_ hx hb hX hbl hbA hS (i + 3) rfl (by omega) (by omega) dL_law_294 ?_
        refine cv_V (ci := 0) (n := 3) (As := [.int (xs (i + 1)), .int (xs (i + 2)), .int (xs (i + 3))]) (rest := []) (wr := [o1_ h1 rf rn rx ry rz ra, ar_ rf cA 20 g1, ar_ rn cA 5 g2, ar_ rx cA 5 g3, ar_ ry cA 5 g4, ar_ rz cA 5 g5, ar_ ra cA 5 g6]) (w2 := fun u : (Nat → Int64) × (Nat → Int64) × (Nat → Int64) × (Nat → Int64) × (Nat → Int64) × (Nat → Int64) × (Nat → Int64) => [o0_ h0 qr qn qw qa qb qc qx, ar_ qr cA 20 u.1, ar_ qn cA 5 u.2.1, ar_ qw cA 10 u.2.2.1, ar_ qa cA 5 u.2.2.2.1, ar_ qb cA 5 u.2.2.2.2.1, ar_ qc cA 5 u.2.2.2.2.2.1, ar_ qx cA 5 u.2.2.2.2.2.2, o1_ h1 rf rn rx ry rz ra, ar_ rf cA 20 g1, ar_ rn cA 5 g2, ar_ rx cA 5 g3, ar_ ry cA 5 g4, ar_ rz cA 5 g5, ar_ ra cA 5 g6]) hx hb hml hown hts hK (m0_multiply l D cA h0 qr qn qw qa qb qc qx f1 f2 f3 f4 f5 f6 f7 v hf (xs (i + 1)) (xs (i + 2)) (xs (i + 3))) (lw_V q99 q100 q101 q11 q102) (by decide +kernel) rfl ⟨rfl, rfl⟩ ⟨Nat.le_of_ble_eq_true rfl, Nat.le_of_ble_eq_true rfl⟩ ⟨Nat.le_refl _, Nat.le_refl _⟩ hP hD hS hA [0, 1, 2, 3, 4, 5, 6, 7] [8, 9, 10, 11, 12, 13, 14] [7, 8, 9, 10, 11, 12, 13, 14, 0, 1, 2, 3, 4, 5, 6] rfl rfl rfl rfl (by decide) (by decide) (by decide) (by decide) (fun _ => rfl) hl.1 rfl (Nat.le_of_ble_eq_true rfl) dL_law_295 (fun u H locs hu hP hD hS => ?_)
        obtain ⟨a1, a2, a3, a4, a5, a6, a7⟩ := u
        have hP : va_P D wk_Cl [o0_ h0 qr qn qw qa qb qc qx, ar_ qr cA 20 a1, ar_ qn cA 5 a2, ar_ qw cA 10 a3, ar_ qa cA 5 a4, ar_ qb cA 5 a5, ar_ qc cA 5 a6, ar_ qx cA 5 a7, o1_ h1 rf rn rx ry rz ra, ar_ rf cA 20 g1, ar_ rn cA 5 g2, ar_ rx cA 5 g3, ar_ ry cA 5 g4, ar_ rz cA 5 g5, ar_ ra cA 5 g6] H := hP
        have hD : va_D A [o0_ h0 qr qn qw qa qb qc qx, ar_ qr cA 20 a1, ar_ qn cA 5 a2, ar_ qw cA 10 a3, ar_ qa cA 5 a4, ar_ qb cA 5 a5, ar_ qc cA 5 a6, ar_ qx cA 5 a7, o1_ h1 rf rn rx ry rz ra, ar_ rf cA 20 g1, ar_ rn cA 5 g2, ar_ rx cA 5 g3, ar_ ry cA 5 g4, ar_ rz cA 5 g5, ar_ ra cA 5 g6] := hD
        refine lv_aload_n hx hb dL_law_298 rfl (lv_at hl 3 rfl) ?_
        refine lv_aload_n hx hb dL_law_299 rfl (lv_at hl 1 rfl) ?_
        refine lv_iload_n hx hb dL_law_300 rfl (lv_at hl 0 rfl) ?_
        refine lv_iconst (v := nI 1) hx hb dL_law_301 (by decide) ?_
        refine lv_iadd hx hb dL_law_302 ?_
        refine ti_ (nI (i + 1)) (nI_add _ _) ?_
        refine sa_ hx hb hX hbl hbA hS (i + 1) rfl (by omega) (by omega) dL_law_303 ?_
        refine lv_aload_n hx hb dL_law_304 rfl (lv_at hl 1 rfl) ?_
        refine lv_iload_n hx hb dL_law_305 rfl (lv_at hl 0 rfl) ?_
        refine lv_iconst (v := nI 2) hx hb dL_law_306 (by decide) ?_
        refine lv_iadd hx hb dL_law_307 ?_
        refine ti_ (nI (i + 2)) (nI_add _ _) ?_
        refine sa_ hx hb hX hbl hbA hS (i + 2) rfl (by omega) (by omega) dL_law_308 ?_
        refine lv_aload_n hx hb dL_law_309 rfl (lv_at hl 1 rfl) ?_
        refine lv_iload_n hx hb dL_law_310 rfl (lv_at hl 0 rfl) ?_
        refine lv_iconst (v := nI 3) hx hb dL_law_311 (by decide) ?_
        refine lv_iadd hx hb dL_law_312 ?_
        refine ti_ (nI (i + 3)) (nI_add _ _) ?_
        refine sa_ hx hb hX hbl hbA hS (i + 3) rfl (by omega) (by omega) dL_law_313 ?_
        refine cv_V (ci := 1) (n := 3) (As := [.int (xs (i + 1)), .int (xs (i + 2)), .int (xs (i + 3))]) (rest := []) (wr := [o0_ h0 qr qn qw qa qb qc qx, ar_ qr cA 20 a1, ar_ qn cA 5 a2, ar_ qw cA 10 a3, ar_ qa cA 5 a4, ar_ qb cA 5 a5, ar_ qc cA 5 a6, ar_ qx cA 5 a7]) (w2 := fun u : (Nat → Int64) × (Nat → Int64) × (Nat → Int64) × (Nat → Int64) × (Nat → Int64) × (Nat → Int64) => [o0_ h0 qr qn qw qa qb qc qx, ar_ qr cA 20 a1, ar_ qn cA 5 a2, ar_ qw cA 10 a3, ar_ qa cA 5 a4, ar_ qb cA 5 a5, ar_ qc cA 5 a6, ar_ qx cA 5 a7, o1_ h1 rf rn rx ry rz ra, ar_ rf cA 20 u.1, ar_ rn cA 5 u.2.1, ar_ rx cA 5 u.2.2.1, ar_ ry cA 5 u.2.2.2.1, ar_ rz cA 5 u.2.2.2.2.1, ar_ ra cA 5 u.2.2.2.2.2]) hx hb hml hown hts hK (m1_multiply l D cA h1 rf rn rx ry rz ra g1 g2 g3 g4 g5 g6 v hg (xs (i + 1)) (xs (i + 2)) (xs (i + 3))) (lw_V q205 q206 q207 q12 q208) (by decide +kernel) rfl ⟨rfl, rfl⟩ ⟨Nat.le_of_ble_eq_true rfl, Nat.le_of_ble_eq_true rfl⟩ ⟨Nat.le_refl _, Nat.le_refl _⟩ hP hD hS hA [8, 9, 10, 11, 12, 13, 14] [0, 1, 2, 3, 4, 5, 6, 7] [0, 1, 2, 3, 4, 5, 6, 7, 8, 9, 10, 11, 12, 13, 14] rfl rfl rfl rfl (by decide) (by decide) (by decide) (by decide) (fun _ => rfl) hl.1 rfl (Nat.le_of_ble_eq_true rfl) dL_law_314 (fun u H locs hw hP hD hS => ?_)
        obtain ⟨c1, c2, c3, c4, c5, c6⟩ := u
        have hP : va_P D wk_Cl [o0_ h0 qr qn qw qa qb qc qx, ar_ qr cA 20 a1, ar_ qn cA 5 a2, ar_ qw cA 10 a3, ar_ qa cA 5 a4, ar_ qb cA 5 a5, ar_ qc cA 5 a6, ar_ qx cA 5 a7, o1_ h1 rf rn rx ry rz ra, ar_ rf cA 20 c1, ar_ rn cA 5 c2, ar_ rx cA 5 c3, ar_ ry cA 5 c4, ar_ rz cA 5 c5, ar_ ra cA 5 c6] H := hP
        have hD : va_D A [o0_ h0 qr qn qw qa qb qc qx, ar_ qr cA 20 a1, ar_ qn cA 5 a2, ar_ qw cA 10 a3, ar_ qa cA 5 a4, ar_ qb cA 5 a5, ar_ qc cA 5 a6, ar_ qx cA 5 a7, o1_ h1 rf rn rx ry rz ra, ar_ rf cA 20 c1, ar_ rn cA 5 c2, ar_ rx cA 5 c3, ar_ ry cA 5 c4, ar_ rz cA 5 c5, ar_ ra cA 5 c6] := hD
        refine lv_goto (tgt := 479) hx hb dL_law_317 (by decide) ?_
        obtain ⟨hu1, hu2, hu3⟩ := hu
        obtain ⟨hw1, hw2⟩ := hw
        have hu1 : rgs_ a1 (up_ v (rg_ (xs (i + 1))) (gf_mul (v (rg_ (xs (i + 2)))) (v (rg_ (xs (i + 3)))))) := hu1
        have hw1 : rgs_ c1 (up_ v (rg_ (xs (i + 1))) (gf_mul (v (rg_ (xs (i + 2)))) (v (rg_ (xs (i + 3)))))) := hw1
        have hu2 : a2 = f2 := hu2
        have hw2 : c2 = g2 := hw2
        have hu3 : a7 = f7 := hu3
        exact k479 a1 a2 a3 a4 a5 a6 a7 c1 c2 c3 c4 c5 c6 (up_ v (rg_ (xs (i + 1))) (gf_mul (v (rg_ (xs (i + 2)))) (v (rg_ (xs (i + 3)))))) hu1 hw1 (by rw [hw2, hu2, hline]) (hu3 ▸ hroot) _ _ _ hP hD hS (lv_sub hl [0, 1, 2, 3] rfl)
      · refine lv_tableIn (off := 287) (tgt := 320) hx hb dL_law_33 (by decide) (by decide) (by decide +kernel) (by decide) ?_
        refine lv_aload_n hx hb dL_law_320 rfl (lv_at hl 2 rfl) ?_
        refine lv_aload_n hx hb dL_law_321 rfl (lv_at hl 1 rfl) ?_
        refine lv_iload_n hx hb dL_law_322 rfl (lv_at hl 0 rfl) ?_
        refine lv_iconst (v := nI 1) hx hb dL_law_323 (by decide) ?_
        refine lv_iadd hx hb dL_law_324 ?_
        refine ti_ (nI (i + 1)) (nI_add _ _) ?_
        refine sa_ hx hb hX hbl hbA hS (i + 1) rfl (by omega) (by omega) dL_law_325 ?_
        refine lv_aload_n hx hb dL_law_326 rfl (lv_at hl 1 rfl) ?_
        refine lv_iload_n hx hb dL_law_327 rfl (lv_at hl 0 rfl) ?_
        refine lv_iconst (v := nI 2) hx hb dL_law_328 (by decide) ?_
        refine lv_iadd hx hb dL_law_329 ?_
        refine ti_ (nI (i + 2)) (nI_add _ _) ?_
        refine sa_ hx hb hX hbl hbA hS (i + 2) rfl (by omega) (by omega) dL_law_330 ?_
        refine cv_V (ci := 0) (n := 2) (As := [.int (xs (i + 1)), .int (xs (i + 2))]) (rest := []) (wr := [o1_ h1 rf rn rx ry rz ra, ar_ rf cA 20 g1, ar_ rn cA 5 g2, ar_ rx cA 5 g3, ar_ ry cA 5 g4, ar_ rz cA 5 g5, ar_ ra cA 5 g6]) (w2 := fun u : (Nat → Int64) × (Nat → Int64) × (Nat → Int64) × (Nat → Int64) × (Nat → Int64) × (Nat → Int64) × (Nat → Int64) => [o0_ h0 qr qn qw qa qb qc qx, ar_ qr cA 20 u.1, ar_ qn cA 5 u.2.1, ar_ qw cA 10 u.2.2.1, ar_ qa cA 5 u.2.2.2.1, ar_ qb cA 5 u.2.2.2.2.1, ar_ qc cA 5 u.2.2.2.2.2.1, ar_ qx cA 5 u.2.2.2.2.2.2, o1_ h1 rf rn rx ry rz ra, ar_ rf cA 20 g1, ar_ rn cA 5 g2, ar_ rx cA 5 g3, ar_ ry cA 5 g4, ar_ rz cA 5 g5, ar_ ra cA 5 g6]) hx hb hml hown hts hK (m0_square l D cA h0 qr qn qw qa qb qc qx f1 f2 f3 f4 f5 f6 f7 v hf (xs (i + 1)) (xs (i + 2))) (lw_V q115 q116 q117 q11 q118) (by decide +kernel) rfl ⟨rfl, rfl⟩ ⟨Nat.le_of_ble_eq_true rfl, Nat.le_of_ble_eq_true rfl⟩ ⟨Nat.le_refl _, Nat.le_refl _⟩ hP hD hS hA [0, 1, 2, 3, 4, 5, 6, 7] [8, 9, 10, 11, 12, 13, 14] [7, 8, 9, 10, 11, 12, 13, 14, 0, 1, 2, 3, 4, 5, 6] rfl rfl rfl rfl (by decide) (by decide) (by decide) (by decide) (fun _ => rfl) hl.1 rfl (Nat.le_of_ble_eq_true rfl) dL_law_331 (fun u H locs hu hP hD hS => ?_)
        obtain ⟨a1, a2, a3, a4, a5, a6, a7⟩ := u
        have hP : va_P D wk_Cl [o0_ h0 qr qn qw qa qb qc qx, ar_ qr cA 20 a1, ar_ qn cA 5 a2, ar_ qw cA 10 a3, ar_ qa cA 5 a4, ar_ qb cA 5 a5, ar_ qc cA 5 a6, ar_ qx cA 5 a7, o1_ h1 rf rn rx ry rz ra, ar_ rf cA 20 g1, ar_ rn cA 5 g2, ar_ rx cA 5 g3, ar_ ry cA 5 g4, ar_ rz cA 5 g5, ar_ ra cA 5 g6] H := hP
        have hD : va_D A [o0_ h0 qr qn qw qa qb qc qx, ar_ qr cA 20 a1, ar_ qn cA 5 a2, ar_ qw cA 10 a3, ar_ qa cA 5 a4, ar_ qb cA 5 a5, ar_ qc cA 5 a6, ar_ qx cA 5 a7, o1_ h1 rf rn rx ry rz ra, ar_ rf cA 20 g1, ar_ rn cA 5 g2, ar_ rx cA 5 g3, ar_ ry cA 5 g4, ar_ rz cA 5 g5, ar_ ra cA 5 g6] := hD
        refine lv_aload_n hx hb dL_law_334 rfl (lv_at hl 3 rfl) ?_
        refine lv_aload_n hx hb dL_law_335 rfl (lv_at hl 1 rfl) ?_
        refine lv_iload_n hx hb dL_law_336 rfl (lv_at hl 0 rfl) ?_
        refine lv_iconst (v := nI 1) hx hb dL_law_337 (by decide) ?_
        refine lv_iadd hx hb dL_law_338 ?_
        refine ti_ (nI (i + 1)) (nI_add _ _) ?_
        refine sa_ hx hb hX hbl hbA hS (i + 1) rfl (by omega) (by omega) dL_law_339 ?_
        refine lv_aload_n hx hb dL_law_340 rfl (lv_at hl 1 rfl) ?_
        refine lv_iload_n hx hb dL_law_341 rfl (lv_at hl 0 rfl) ?_
        refine lv_iconst (v := nI 2) hx hb dL_law_342 (by decide) ?_
        refine lv_iadd hx hb dL_law_343 ?_
        refine ti_ (nI (i + 2)) (nI_add _ _) ?_
        refine sa_ hx hb hX hbl hbA hS (i + 2) rfl (by omega) (by omega) dL_law_344 ?_
        refine cv_V (ci := 1) (n := 2) (As := [.int (xs (i + 1)), .int (xs (i + 2))]) (rest := []) (wr := [o0_ h0 qr qn qw qa qb qc qx, ar_ qr cA 20 a1, ar_ qn cA 5 a2, ar_ qw cA 10 a3, ar_ qa cA 5 a4, ar_ qb cA 5 a5, ar_ qc cA 5 a6, ar_ qx cA 5 a7]) (w2 := fun u : (Nat → Int64) × (Nat → Int64) × (Nat → Int64) × (Nat → Int64) × (Nat → Int64) × (Nat → Int64) => [o0_ h0 qr qn qw qa qb qc qx, ar_ qr cA 20 a1, ar_ qn cA 5 a2, ar_ qw cA 10 a3, ar_ qa cA 5 a4, ar_ qb cA 5 a5, ar_ qc cA 5 a6, ar_ qx cA 5 a7, o1_ h1 rf rn rx ry rz ra, ar_ rf cA 20 u.1, ar_ rn cA 5 u.2.1, ar_ rx cA 5 u.2.2.1, ar_ ry cA 5 u.2.2.2.1, ar_ rz cA 5 u.2.2.2.2.1, ar_ ra cA 5 u.2.2.2.2.2]) hx hb hml hown hts hK (m1_square l D cA h1 rf rn rx ry rz ra g1 g2 g3 g4 g5 g6 v hg (xs (i + 1)) (xs (i + 2))) (lw_V q216 q217 q218 q12 q219) (by decide +kernel) rfl ⟨rfl, rfl⟩ ⟨Nat.le_of_ble_eq_true rfl, Nat.le_of_ble_eq_true rfl⟩ ⟨Nat.le_refl _, Nat.le_refl _⟩ hP hD hS hA [8, 9, 10, 11, 12, 13, 14] [0, 1, 2, 3, 4, 5, 6, 7] [0, 1, 2, 3, 4, 5, 6, 7, 8, 9, 10, 11, 12, 13, 14] rfl rfl rfl rfl (by decide) (by decide) (by decide) (by decide) (fun _ => rfl) hl.1 rfl (Nat.le_of_ble_eq_true rfl) dL_law_345 (fun u H locs hw hP hD hS => ?_)
        obtain ⟨c1, c2, c3, c4, c5, c6⟩ := u
        have hP : va_P D wk_Cl [o0_ h0 qr qn qw qa qb qc qx, ar_ qr cA 20 a1, ar_ qn cA 5 a2, ar_ qw cA 10 a3, ar_ qa cA 5 a4, ar_ qb cA 5 a5, ar_ qc cA 5 a6, ar_ qx cA 5 a7, o1_ h1 rf rn rx ry rz ra, ar_ rf cA 20 c1, ar_ rn cA 5 c2, ar_ rx cA 5 c3, ar_ ry cA 5 c4, ar_ rz cA 5 c5, ar_ ra cA 5 c6] H := hP
        have hD : va_D A [o0_ h0 qr qn qw qa qb qc qx, ar_ qr cA 20 a1, ar_ qn cA 5 a2, ar_ qw cA 10 a3, ar_ qa cA 5 a4, ar_ qb cA 5 a5, ar_ qc cA 5 a6, ar_ qx cA 5 a7, o1_ h1 rf rn rx ry rz ra, ar_ rf cA 20 c1, ar_ rn cA 5 c2, ar_ rx cA 5 c3, ar_ ry cA 5 c4, ar_ rz cA 5 c5, ar_ ra cA 5 c6] := hD
        refine lv_goto (tgt := 479) hx hb dL_law_348 (by decide) ?_
        obtain ⟨hu1, hu2, hu3⟩ := hu
        obtain ⟨hw1, hw2⟩ := hw
        have hu1 : rgs_ a1 (up_ v (rg_ (xs (i + 1))) (gf_sq (v (rg_ (xs (i + 2)))))) := hu1
        have hw1 : rgs_ c1 (up_ v (rg_ (xs (i + 1))) (gf_sq (v (rg_ (xs (i + 2)))))) := hw1
        have hu2 : a2 = f2 := hu2
        have hw2 : c2 = g2 := hw2
        have hu3 : a7 = f7 := hu3
        exact k479 a1 a2 a3 a4 a5 a6 a7 c1 c2 c3 c4 c5 c6 (up_ v (rg_ (xs (i + 1))) (gf_sq (v (rg_ (xs (i + 2)))))) hu1 hw1 (by rw [hw2, hu2, hline]) (hu3 ▸ hroot) _ _ _ hP hD hS (lv_sub hl [0, 1, 2, 3] rfl)
      · refine lv_tableIn (off := 318) (tgt := 351) hx hb dL_law_33 (by decide) (by decide) (by decide +kernel) (by decide) ?_
        refine lv_aload_n hx hb dL_law_351 rfl (lv_at hl 2 rfl) ?_
        refine lv_aload_n hx hb dL_law_352 rfl (lv_at hl 1 rfl) ?_
        refine lv_iload_n hx hb dL_law_353 rfl (lv_at hl 0 rfl) ?_
        refine lv_iconst (v := nI 1) hx hb dL_law_354 (by decide) ?_
        refine lv_iadd hx hb dL_law_355 ?_
        refine ti_ (nI (i + 1)) (nI_add _ _) ?_
        refine sa_ hx hb hX hbl hbA hS (i + 1) rfl (by omega) (by omega) dL_law_356 ?_
        refine lv_aload_n hx hb dL_law_357 rfl (lv_at hl 1 rfl) ?_
        refine lv_iload_n hx hb dL_law_358 rfl (lv_at hl 0 rfl) ?_
        refine lv_iconst (v := nI 2) hx hb dL_law_359 (by decide) ?_
        refine lv_iadd hx hb dL_law_360 ?_
        refine ti_ (nI (i + 2)) (nI_add _ _) ?_
        refine sa_ hx hb hX hbl hbA hS (i + 2) rfl (by omega) (by omega) dL_law_361 ?_
        refine lv_aload_n hx hb dL_law_362 rfl (lv_at hl 1 rfl) ?_
        refine lv_iload_n hx hb dL_law_363 rfl (lv_at hl 0 rfl) ?_
        refine lv_iconst (v := nI 3) hx hb dL_law_364 (by decide) ?_
        refine lv_iadd hx hb dL_law_365 ?_
        refine ti_ (nI (i + 3)) (nI_add _ _) ?_
        refine sa_ hx hb hX hbl hbA hS (i + 3) rfl (by omega) (by omega) dL_law_366 ?_
        refine cv_V (ci := 0) (n := 3) (As := [.int (xs (i + 1)), .int (xs (i + 2)), .int (xs (i + 3))]) (rest := []) (wr := [o1_ h1 rf rn rx ry rz ra, ar_ rf cA 20 g1, ar_ rn cA 5 g2, ar_ rx cA 5 g3, ar_ ry cA 5 g4, ar_ rz cA 5 g5, ar_ ra cA 5 g6]) (w2 := fun u : (Nat → Int64) × (Nat → Int64) × (Nat → Int64) × (Nat → Int64) × (Nat → Int64) × (Nat → Int64) × (Nat → Int64) => [o0_ h0 qr qn qw qa qb qc qx, ar_ qr cA 20 u.1, ar_ qn cA 5 u.2.1, ar_ qw cA 10 u.2.2.1, ar_ qa cA 5 u.2.2.2.1, ar_ qb cA 5 u.2.2.2.2.1, ar_ qc cA 5 u.2.2.2.2.2.1, ar_ qx cA 5 u.2.2.2.2.2.2, o1_ h1 rf rn rx ry rz ra, ar_ rf cA 20 g1, ar_ rn cA 5 g2, ar_ rx cA 5 g3, ar_ ry cA 5 g4, ar_ rz cA 5 g5, ar_ ra cA 5 g6]) hx hb hml hown hts hK (m0_squares l D cA h0 qr qn qw qa qb qc qx f1 f2 f3 f4 f5 f6 f7 v hf (xs (i + 1)) (xs (i + 2)) (xs (i + 3))) (lw_V q119 q120 q121 q11 q122) (by decide +kernel) rfl ⟨rfl, rfl⟩ ⟨Nat.le_of_ble_eq_true rfl, Nat.le_of_ble_eq_true rfl⟩ ⟨Nat.le_refl _, Nat.le_refl _⟩ hP hD hS hA [0, 1, 2, 3, 4, 5, 6, 7] [8, 9, 10, 11, 12, 13, 14] [7, 8, 9, 10, 11, 12, 13, 14, 0, 1, 2, 3, 4, 5, 6] rfl rfl rfl rfl (by decide) (by decide) (by decide) (by decide) (fun _ => rfl) hl.1 rfl (Nat.le_of_ble_eq_true rfl) dL_law_367 (fun u H locs hu hP hD hS => ?_)
        obtain ⟨a1, a2, a3, a4, a5, a6, a7⟩ := u
        have hP : va_P D wk_Cl [o0_ h0 qr qn qw qa qb qc qx, ar_ qr cA 20 a1, ar_ qn cA 5 a2, ar_ qw cA 10 a3, ar_ qa cA 5 a4, ar_ qb cA 5 a5, ar_ qc cA 5 a6, ar_ qx cA 5 a7, o1_ h1 rf rn rx ry rz ra, ar_ rf cA 20 g1, ar_ rn cA 5 g2, ar_ rx cA 5 g3, ar_ ry cA 5 g4, ar_ rz cA 5 g5, ar_ ra cA 5 g6] H := hP
        have hD : va_D A [o0_ h0 qr qn qw qa qb qc qx, ar_ qr cA 20 a1, ar_ qn cA 5 a2, ar_ qw cA 10 a3, ar_ qa cA 5 a4, ar_ qb cA 5 a5, ar_ qc cA 5 a6, ar_ qx cA 5 a7, o1_ h1 rf rn rx ry rz ra, ar_ rf cA 20 g1, ar_ rn cA 5 g2, ar_ rx cA 5 g3, ar_ ry cA 5 g4, ar_ rz cA 5 g5, ar_ ra cA 5 g6] := hD
        refine lv_aload_n hx hb dL_law_370 rfl (lv_at hl 3 rfl) ?_
        refine lv_aload_n hx hb dL_law_371 rfl (lv_at hl 1 rfl) ?_
        refine lv_iload_n hx hb dL_law_372 rfl (lv_at hl 0 rfl) ?_
        refine lv_iconst (v := nI 1) hx hb dL_law_373 (by decide) ?_
        refine lv_iadd hx hb dL_law_374 ?_
        refine ti_ (nI (i + 1)) (nI_add _ _) ?_
        refine sa_ hx hb hX hbl hbA hS (i + 1) rfl (by omega) (by omega) dL_law_375 ?_
        refine lv_aload_n hx hb dL_law_376 rfl (lv_at hl 1 rfl) ?_
        refine lv_iload_n hx hb dL_law_377 rfl (lv_at hl 0 rfl) ?_
        refine lv_iconst (v := nI 2) hx hb dL_law_378 (by decide) ?_
        refine lv_iadd hx hb dL_law_379 ?_
        refine ti_ (nI (i + 2)) (nI_add _ _) ?_
        refine sa_ hx hb hX hbl hbA hS (i + 2) rfl (by omega) (by omega) dL_law_380 ?_
        refine lv_aload_n hx hb dL_law_381 rfl (lv_at hl 1 rfl) ?_
        refine lv_iload_n hx hb dL_law_382 rfl (lv_at hl 0 rfl) ?_
        refine lv_iconst (v := nI 3) hx hb dL_law_383 (by decide) ?_
        refine lv_iadd hx hb dL_law_384 ?_
        refine ti_ (nI (i + 3)) (nI_add _ _) ?_
        refine sa_ hx hb hX hbl hbA hS (i + 3) rfl (by omega) (by omega) dL_law_385 ?_
        refine cv_V (ci := 1) (n := 3) (As := [.int (xs (i + 1)), .int (xs (i + 2)), .int (xs (i + 3))]) (rest := []) (wr := [o0_ h0 qr qn qw qa qb qc qx, ar_ qr cA 20 a1, ar_ qn cA 5 a2, ar_ qw cA 10 a3, ar_ qa cA 5 a4, ar_ qb cA 5 a5, ar_ qc cA 5 a6, ar_ qx cA 5 a7]) (w2 := fun u : (Nat → Int64) × (Nat → Int64) × (Nat → Int64) × (Nat → Int64) × (Nat → Int64) × (Nat → Int64) => [o0_ h0 qr qn qw qa qb qc qx, ar_ qr cA 20 a1, ar_ qn cA 5 a2, ar_ qw cA 10 a3, ar_ qa cA 5 a4, ar_ qb cA 5 a5, ar_ qc cA 5 a6, ar_ qx cA 5 a7, o1_ h1 rf rn rx ry rz ra, ar_ rf cA 20 u.1, ar_ rn cA 5 u.2.1, ar_ rx cA 5 u.2.2.1, ar_ ry cA 5 u.2.2.2.1, ar_ rz cA 5 u.2.2.2.2.1, ar_ ra cA 5 u.2.2.2.2.2]) hx hb hml hown hts hK (m1_squares l D cA h1 rf rn rx ry rz ra g1 g2 g3 g4 g5 g6 v hg (xs (i + 1)) (xs (i + 2)) (xs (i + 3))) (lw_V q228 q221 q222 q12 q223) (by decide +kernel) rfl ⟨rfl, rfl⟩ ⟨Nat.le_of_ble_eq_true rfl, Nat.le_of_ble_eq_true rfl⟩ ⟨Nat.le_refl _, Nat.le_refl _⟩ hP hD hS hA [8, 9, 10, 11, 12, 13, 14] [0, 1, 2, 3, 4, 5, 6, 7] [0, 1, 2, 3, 4, 5, 6, 7, 8, 9, 10, 11, 12, 13, 14] rfl rfl rfl rfl (by decide) (by decide) (by decide) (by decide) (fun _ => rfl) hl.1 rfl (Nat.le_of_ble_eq_true rfl) dL_law_386 (fun u H locs hw hP hD hS => ?_)
        obtain ⟨c1, c2, c3, c4, c5, c6⟩ := u
        have hP : va_P D wk_Cl [o0_ h0 qr qn qw qa qb qc qx, ar_ qr cA 20 a1, ar_ qn cA 5 a2, ar_ qw cA 10 a3, ar_ qa cA 5 a4, ar_ qb cA 5 a5, ar_ qc cA 5 a6, ar_ qx cA 5 a7, o1_ h1 rf rn rx ry rz ra, ar_ rf cA 20 c1, ar_ rn cA 5 c2, ar_ rx cA 5 c3, ar_ ry cA 5 c4, ar_ rz cA 5 c5, ar_ ra cA 5 c6] H := hP
        have hD : va_D A [o0_ h0 qr qn qw qa qb qc qx, ar_ qr cA 20 a1, ar_ qn cA 5 a2, ar_ qw cA 10 a3, ar_ qa cA 5 a4, ar_ qb cA 5 a5, ar_ qc cA 5 a6, ar_ qx cA 5 a7, o1_ h1 rf rn rx ry rz ra, ar_ rf cA 20 c1, ar_ rn cA 5 c2, ar_ rx cA 5 c3, ar_ ry cA 5 c4, ar_ rz cA 5 c5, ar_ ra cA 5 c6] := hD
        refine lv_goto (tgt := 479) hx hb dL_law_389 (by decide) ?_
        obtain ⟨hu1, hu2, hu3⟩ := hu
        obtain ⟨hw1, hw2⟩ := hw
        have hu1 : rgs_ a1 (up_ v (rg_ (xs (i + 1))) (gf_sqn ((xs (i + 3)).toBitVec.toNat % 16 + 1) (v (rg_ (xs (i + 2)))))) := hu1
        have hw1 : rgs_ c1 (up_ v (rg_ (xs (i + 1))) (gf_sqn ((xs (i + 3)).toBitVec.toNat % 16 + 1) (v (rg_ (xs (i + 2)))))) := hw1
        have hu2 : a2 = f2 := hu2
        have hw2 : c2 = g2 := hw2
        have hu3 : a7 = f7 := hu3
        exact k479 a1 a2 a3 a4 a5 a6 a7 c1 c2 c3 c4 c5 c6 (up_ v (rg_ (xs (i + 1))) (gf_sqn ((xs (i + 3)).toBitVec.toNat % 16 + 1) (v (rg_ (xs (i + 2)))))) hu1 hw1 (by rw [hw2, hu2, hline]) (hu3 ▸ hroot) _ _ _ hP hD hS (lv_sub hl [0, 1, 2, 3] rfl)
      · refine lv_tableIn (off := 359) (tgt := 392) hx hb dL_law_33 (by decide) (by decide) (by decide +kernel) (by decide) ?_
        refine lv_aload_n hx hb dL_law_392 rfl (lv_at hl 2 rfl) ?_
        refine lv_aload_n hx hb dL_law_393 rfl (lv_at hl 1 rfl) ?_
        refine lv_iload_n hx hb dL_law_394 rfl (lv_at hl 0 rfl) ?_
        refine lv_iconst (v := nI 1) hx hb dL_law_395 (by decide) ?_
        refine lv_iadd hx hb dL_law_396 ?_
        refine ti_ (nI (i + 1)) (nI_add _ _) ?_
        refine sa_ hx hb hX hbl hbA hS (i + 1) rfl (by omega) (by omega) dL_law_397 ?_
        refine lv_aload_n hx hb dL_law_398 rfl (lv_at hl 1 rfl) ?_
        refine lv_iload_n hx hb dL_law_399 rfl (lv_at hl 0 rfl) ?_
        refine lv_iconst (v := nI 2) hx hb dL_law_400 (by decide) ?_
        refine lv_iadd hx hb dL_law_401 ?_
        refine ti_ (nI (i + 2)) (nI_add _ _) ?_
        refine sa_ hx hb hX hbl hbA hS (i + 2) rfl (by omega) (by omega) dL_law_402 ?_
        refine cv_V (ci := 0) (n := 2) (As := [.int (xs (i + 1)), .int (xs (i + 2))]) (rest := []) (wr := [o1_ h1 rf rn rx ry rz ra, ar_ rf cA 20 g1, ar_ rn cA 5 g2, ar_ rx cA 5 g3, ar_ ry cA 5 g4, ar_ rz cA 5 g5, ar_ ra cA 5 g6]) (w2 := fun u : (Nat → Int64) × (Nat → Int64) × (Nat → Int64) × (Nat → Int64) × (Nat → Int64) × (Nat → Int64) × (Nat → Int64) => [o0_ h0 qr qn qw qa qb qc qx, ar_ qr cA 20 u.1, ar_ qn cA 5 u.2.1, ar_ qw cA 10 u.2.2.1, ar_ qa cA 5 u.2.2.2.1, ar_ qb cA 5 u.2.2.2.2.1, ar_ qc cA 5 u.2.2.2.2.2.1, ar_ qx cA 5 u.2.2.2.2.2.2, o1_ h1 rf rn rx ry rz ra, ar_ rf cA 20 g1, ar_ rn cA 5 g2, ar_ rx cA 5 g3, ar_ ry cA 5 g4, ar_ rz cA 5 g5, ar_ ra cA 5 g6]) hx hb hml hown hts hK (m0_root l D cA h0 qr qn qw qa qb qc qx f1 f2 f3 f4 f5 f6 f7 v hf hroot (xs (i + 1)) (xs (i + 2))) (lw_V q127 q128 q129 q11 q130) (by decide +kernel) rfl ⟨rfl, rfl⟩ ⟨Nat.le_of_ble_eq_true rfl, Nat.le_of_ble_eq_true rfl⟩ ⟨Nat.le_refl _, Nat.le_refl _⟩ hP hD hS hA [0, 1, 2, 3, 4, 5, 6, 7] [8, 9, 10, 11, 12, 13, 14] [7, 8, 9, 10, 11, 12, 13, 14, 0, 1, 2, 3, 4, 5, 6] rfl rfl rfl rfl (by decide) (by decide) (by decide) (by decide) (fun _ => rfl) hl.1 rfl (Nat.le_of_ble_eq_true rfl) dL_law_403 (fun u H locs hu hP hD hS => ?_)
        obtain ⟨a1, a2, a3, a4, a5, a6, a7⟩ := u
        have hP : va_P D wk_Cl [o0_ h0 qr qn qw qa qb qc qx, ar_ qr cA 20 a1, ar_ qn cA 5 a2, ar_ qw cA 10 a3, ar_ qa cA 5 a4, ar_ qb cA 5 a5, ar_ qc cA 5 a6, ar_ qx cA 5 a7, o1_ h1 rf rn rx ry rz ra, ar_ rf cA 20 g1, ar_ rn cA 5 g2, ar_ rx cA 5 g3, ar_ ry cA 5 g4, ar_ rz cA 5 g5, ar_ ra cA 5 g6] H := hP
        have hD : va_D A [o0_ h0 qr qn qw qa qb qc qx, ar_ qr cA 20 a1, ar_ qn cA 5 a2, ar_ qw cA 10 a3, ar_ qa cA 5 a4, ar_ qb cA 5 a5, ar_ qc cA 5 a6, ar_ qx cA 5 a7, o1_ h1 rf rn rx ry rz ra, ar_ rf cA 20 g1, ar_ rn cA 5 g2, ar_ rx cA 5 g3, ar_ ry cA 5 g4, ar_ rz cA 5 g5, ar_ ra cA 5 g6] := hD
        refine lv_aload_n hx hb dL_law_406 rfl (lv_at hl 3 rfl) ?_
        refine lv_aload_n hx hb dL_law_407 rfl (lv_at hl 1 rfl) ?_
        refine lv_iload_n hx hb dL_law_408 rfl (lv_at hl 0 rfl) ?_
        refine lv_iconst (v := nI 1) hx hb dL_law_409 (by decide) ?_
        refine lv_iadd hx hb dL_law_410 ?_
        refine ti_ (nI (i + 1)) (nI_add _ _) ?_
        refine sa_ hx hb hX hbl hbA hS (i + 1) rfl (by omega) (by omega) dL_law_411 ?_
        refine lv_aload_n hx hb dL_law_412 rfl (lv_at hl 1 rfl) ?_
        refine lv_iload_n hx hb dL_law_413 rfl (lv_at hl 0 rfl) ?_
        refine lv_iconst (v := nI 2) hx hb dL_law_414 (by decide) ?_
        refine lv_iadd hx hb dL_law_415 ?_
        refine ti_ (nI (i + 2)) (nI_add _ _) ?_
        refine sa_ hx hb hX hbl hbA hS (i + 2) rfl (by omega) (by omega) dL_law_416 ?_
        refine cv_V (ci := 1) (n := 2) (As := [.int (xs (i + 1)), .int (xs (i + 2))]) (rest := []) (wr := [o0_ h0 qr qn qw qa qb qc qx, ar_ qr cA 20 a1, ar_ qn cA 5 a2, ar_ qw cA 10 a3, ar_ qa cA 5 a4, ar_ qb cA 5 a5, ar_ qc cA 5 a6, ar_ qx cA 5 a7]) (w2 := fun u : (Nat → Int64) × (Nat → Int64) × (Nat → Int64) × (Nat → Int64) × (Nat → Int64) × (Nat → Int64) => [o0_ h0 qr qn qw qa qb qc qx, ar_ qr cA 20 a1, ar_ qn cA 5 a2, ar_ qw cA 10 a3, ar_ qa cA 5 a4, ar_ qb cA 5 a5, ar_ qc cA 5 a6, ar_ qx cA 5 a7, o1_ h1 rf rn rx ry rz ra, ar_ rf cA 20 u.1, ar_ rn cA 5 u.2.1, ar_ rx cA 5 u.2.2.1, ar_ ry cA 5 u.2.2.2.1, ar_ rz cA 5 u.2.2.2.2.1, ar_ ra cA 5 u.2.2.2.2.2]) hx hb hml hown hts hK (m1_root l D cA h1 rf rn rx ry rz ra g1 g2 g3 g4 g5 g6 v hg (xs (i + 1)) (xs (i + 2))) (lw_V q229 q230 q231 q12 q232) (by decide +kernel) rfl ⟨rfl, rfl⟩ ⟨Nat.le_of_ble_eq_true rfl, Nat.le_of_ble_eq_true rfl⟩ ⟨Nat.le_refl _, Nat.le_refl _⟩ hP hD hS hA [8, 9, 10, 11, 12, 13, 14] [0, 1, 2, 3, 4, 5, 6, 7] [0, 1, 2, 3, 4, 5, 6, 7, 8, 9, 10, 11, 12, 13, 14] rfl rfl rfl rfl (by decide) (by decide) (by decide) (by decide) (fun _ => rfl) hl.1 rfl (Nat.le_of_ble_eq_true rfl) dL_law_417 (fun u H locs hw hP hD hS => ?_)
        obtain ⟨c1, c2, c3, c4, c5, c6⟩ := u
        have hP : va_P D wk_Cl [o0_ h0 qr qn qw qa qb qc qx, ar_ qr cA 20 a1, ar_ qn cA 5 a2, ar_ qw cA 10 a3, ar_ qa cA 5 a4, ar_ qb cA 5 a5, ar_ qc cA 5 a6, ar_ qx cA 5 a7, o1_ h1 rf rn rx ry rz ra, ar_ rf cA 20 c1, ar_ rn cA 5 c2, ar_ rx cA 5 c3, ar_ ry cA 5 c4, ar_ rz cA 5 c5, ar_ ra cA 5 c6] H := hP
        have hD : va_D A [o0_ h0 qr qn qw qa qb qc qx, ar_ qr cA 20 a1, ar_ qn cA 5 a2, ar_ qw cA 10 a3, ar_ qa cA 5 a4, ar_ qb cA 5 a5, ar_ qc cA 5 a6, ar_ qx cA 5 a7, o1_ h1 rf rn rx ry rz ra, ar_ rf cA 20 c1, ar_ rn cA 5 c2, ar_ rx cA 5 c3, ar_ ry cA 5 c4, ar_ rz cA 5 c5, ar_ ra cA 5 c6] := hD
        refine lv_goto (tgt := 479) hx hb dL_law_420 (by decide) ?_
        obtain ⟨hu1, hu2, hu3⟩ := hu
        obtain ⟨hw1, hw2⟩ := hw
        have hu1 : rgs_ a1 (up_ v (rg_ (xs (i + 1))) (gf_sqn 282 (v (rg_ (xs (i + 2)))))) := hu1
        have hw1 : rgs_ c1 (up_ v (rg_ (xs (i + 1))) (gf_sqn 282 (v (rg_ (xs (i + 2)))))) := hw1
        have hu2 : a2 = f2 := hu2
        have hw2 : c2 = g2 := hw2
        have hu3 : a7 = f7 := hu3
        exact k479 a1 a2 a3 a4 a5 a6 a7 c1 c2 c3 c4 c5 c6 (up_ v (rg_ (xs (i + 1))) (gf_sqn 282 (v (rg_ (xs (i + 2)))))) hu1 hw1 (by rw [hw2, hu2, hline]) (hu3 ▸ hroot) _ _ _ hP hD hS (lv_sub hl [0, 1, 2, 3] rfl)
      · refine lv_tableIn (off := 390) (tgt := 423) hx hb dL_law_33 (by decide) (by decide) (by decide +kernel) (by decide) ?_
        refine lv_aload_n hx hb dL_law_423 rfl (lv_at hl 2 rfl) ?_
        refine lv_aload_n hx hb dL_law_424 rfl (lv_at hl 1 rfl) ?_
        refine lv_iload_n hx hb dL_law_425 rfl (lv_at hl 0 rfl) ?_
        refine lv_iconst (v := nI 1) hx hb dL_law_426 (by decide) ?_
        refine lv_iadd hx hb dL_law_427 ?_
        refine ti_ (nI (i + 1)) (nI_add _ _) ?_
        refine sa_ hx hb hX hbl hbA hS (i + 1) rfl (by omega) (by omega) dL_law_428 ?_
        refine lv_aload_n hx hb dL_law_429 rfl (lv_at hl 1 rfl) ?_
        refine lv_iload_n hx hb dL_law_430 rfl (lv_at hl 0 rfl) ?_
        refine lv_iconst (v := nI 2) hx hb dL_law_431 (by decide) ?_
        refine lv_iadd hx hb dL_law_432 ?_
        refine ti_ (nI (i + 2)) (nI_add _ _) ?_
        refine sa_ hx hb hX hbl hbA hS (i + 2) rfl (by omega) (by omega) dL_law_433 ?_
        refine cv_I (ci := 0) (n := 2) (As := [.int (xs (i + 1)), .int (xs (i + 2))]) (rest := []) (wr := [o1_ h1 rf rn rx ry rz ra, ar_ rf cA 20 g1, ar_ rn cA 5 g2, ar_ rx cA 5 g3, ar_ ry cA 5 g4, ar_ rz cA 5 g5, ar_ ra cA 5 g6]) (w2 := fun u : (Nat → Int64) × (Nat → Int64) × (Nat → Int64) × (Nat → Int64) × (Nat → Int64) × (Nat → Int64) × (Nat → Int64) => [o0_ h0 qr qn qw qa qb qc qx, ar_ qr cA 20 u.1, ar_ qn cA 5 u.2.1, ar_ qw cA 10 u.2.2.1, ar_ qa cA 5 u.2.2.2.1, ar_ qb cA 5 u.2.2.2.2.1, ar_ qc cA 5 u.2.2.2.2.2.1, ar_ qx cA 5 u.2.2.2.2.2.2, o1_ h1 rf rn rx ry rz ra, ar_ rf cA 20 g1, ar_ rn cA 5 g2, ar_ rx cA 5 g3, ar_ ry cA 5 g4, ar_ rz cA 5 g5, ar_ ra cA 5 g6]) hx hb hml hown hts hK (m0_invert l D cA h0 qr qn qw qa qb qc qx f1 f2 f3 f4 f5 f6 f7 v hf (xs (i + 1)) (xs (i + 2))) (lw_V q134 q135 q136 q11 q137) (by decide +kernel) rfl ⟨rfl, rfl⟩ ⟨Nat.le_of_ble_eq_true rfl, Nat.le_of_ble_eq_true rfl⟩ ⟨Nat.le_refl _, Nat.le_refl _⟩ hP hD hS hA [0, 1, 2, 3, 4, 5, 6, 7] [8, 9, 10, 11, 12, 13, 14] [7, 8, 9, 10, 11, 12, 13, 14, 0, 1, 2, 3, 4, 5, 6] rfl rfl rfl rfl (by decide) (by decide) (by decide) (by decide) (fun _ => rfl) hl.1 rfl (Nat.le_of_ble_eq_true rfl) dL_law_434 (fun r0 u H locs hu hP hD hS => ?_)
        obtain ⟨a1, a2, a3, a4, a5, a6, a7⟩ := u
        have hP : va_P D wk_Cl [o0_ h0 qr qn qw qa qb qc qx, ar_ qr cA 20 a1, ar_ qn cA 5 a2, ar_ qw cA 10 a3, ar_ qa cA 5 a4, ar_ qb cA 5 a5, ar_ qc cA 5 a6, ar_ qx cA 5 a7, o1_ h1 rf rn rx ry rz ra, ar_ rf cA 20 g1, ar_ rn cA 5 g2, ar_ rx cA 5 g3, ar_ ry cA 5 g4, ar_ rz cA 5 g5, ar_ ra cA 5 g6] H := hP
        have hD : va_D A [o0_ h0 qr qn qw qa qb qc qx, ar_ qr cA 20 a1, ar_ qn cA 5 a2, ar_ qw cA 10 a3, ar_ qa cA 5 a4, ar_ qb cA 5 a5, ar_ qc cA 5 a6, ar_ qx cA 5 a7, o1_ h1 rf rn rx ry rz ra, ar_ rf cA 20 g1, ar_ rn cA 5 g2, ar_ rx cA 5 g3, ar_ ry cA 5 g4, ar_ rz cA 5 g5, ar_ ra cA 5 g6] := hD
        refine lv_aload_n hx hb dL_law_437 rfl (lv_at hl 3 rfl) ?_
        refine lv_aload_n hx hb dL_law_438 rfl (lv_at hl 1 rfl) ?_
        refine lv_iload_n hx hb dL_law_439 rfl (lv_at hl 0 rfl) ?_
        refine lv_iconst (v := nI 1) hx hb dL_law_440 (by decide) ?_
        refine lv_iadd hx hb dL_law_441 ?_
        refine ti_ (nI (i + 1)) (nI_add _ _) ?_
        refine sa_ hx hb hX hbl hbA hS (i + 1) rfl (by omega) (by omega) dL_law_442 ?_
        refine lv_aload_n hx hb dL_law_443 rfl (lv_at hl 1 rfl) ?_
        refine lv_iload_n hx hb dL_law_444 rfl (lv_at hl 0 rfl) ?_
        refine lv_iconst (v := nI 2) hx hb dL_law_445 (by decide) ?_
        refine lv_iadd hx hb dL_law_446 ?_
        refine ti_ (nI (i + 2)) (nI_add _ _) ?_
        refine sa_ hx hb hX hbl hbA hS (i + 2) rfl (by omega) (by omega) dL_law_447 ?_
        refine cv_I (ci := 1) (n := 2) (As := [.int (xs (i + 1)), .int (xs (i + 2))]) (rest := [.int r0]) (wr := [o0_ h0 qr qn qw qa qb qc qx, ar_ qr cA 20 a1, ar_ qn cA 5 a2, ar_ qw cA 10 a3, ar_ qa cA 5 a4, ar_ qb cA 5 a5, ar_ qc cA 5 a6, ar_ qx cA 5 a7]) (w2 := fun u : (Nat → Int64) × (Nat → Int64) × (Nat → Int64) × (Nat → Int64) × (Nat → Int64) × (Nat → Int64) => [o0_ h0 qr qn qw qa qb qc qx, ar_ qr cA 20 a1, ar_ qn cA 5 a2, ar_ qw cA 10 a3, ar_ qa cA 5 a4, ar_ qb cA 5 a5, ar_ qc cA 5 a6, ar_ qx cA 5 a7, o1_ h1 rf rn rx ry rz ra, ar_ rf cA 20 u.1, ar_ rn cA 5 u.2.1, ar_ rx cA 5 u.2.2.1, ar_ ry cA 5 u.2.2.2.1, ar_ rz cA 5 u.2.2.2.2.1, ar_ ra cA 5 u.2.2.2.2.2]) hx hb hml hown hts hK (m1_invert l D cA h1 rf rn rx ry rz ra g1 g2 g3 g4 g5 g6 v hg (xs (i + 1)) (xs (i + 2))) (lw_V q233 q234 q235 q12 q236) (by decide +kernel) rfl ⟨rfl, rfl⟩ ⟨Nat.le_of_ble_eq_true rfl, Nat.le_of_ble_eq_true rfl⟩ ⟨Nat.le_refl _, Nat.le_refl _⟩ hP hD hS hA [8, 9, 10, 11, 12, 13, 14] [0, 1, 2, 3, 4, 5, 6, 7] [0, 1, 2, 3, 4, 5, 6, 7, 8, 9, 10, 11, 12, 13, 14] rfl rfl rfl rfl (by decide) (by decide) (by decide) (by decide) (fun _ => rfl) hl.1 rfl (Nat.le_of_ble_eq_true rfl) dL_law_448 (fun r1 u H locs hw hP hD hS => ?_)
        obtain ⟨c1, c2, c3, c4, c5, c6⟩ := u
        have hP : va_P D wk_Cl [o0_ h0 qr qn qw qa qb qc qx, ar_ qr cA 20 a1, ar_ qn cA 5 a2, ar_ qw cA 10 a3, ar_ qa cA 5 a4, ar_ qb cA 5 a5, ar_ qc cA 5 a6, ar_ qx cA 5 a7, o1_ h1 rf rn rx ry rz ra, ar_ rf cA 20 c1, ar_ rn cA 5 c2, ar_ rx cA 5 c3, ar_ ry cA 5 c4, ar_ rz cA 5 c5, ar_ ra cA 5 c6] H := hP
        have hD : va_D A [o0_ h0 qr qn qw qa qb qc qx, ar_ qr cA 20 a1, ar_ qn cA 5 a2, ar_ qw cA 10 a3, ar_ qa cA 5 a4, ar_ qb cA 5 a5, ar_ qc cA 5 a6, ar_ qx cA 5 a7, o1_ h1 rf rn rx ry rz ra, ar_ rf cA 20 c1, ar_ rn cA 5 c2, ar_ rx cA 5 c3, ar_ ry cA 5 c4, ar_ rz cA 5 c5, ar_ ra cA 5 c6] := hD
        obtain ⟨hu0, hu1, hu2, hu3⟩ := hu
        obtain ⟨hw0, hw1, hw2⟩ := hw
        refine lv_icmp_eq (tgt := 479) hx hb dL_law_451 (by decide) (fun _ => ?_) (fun hc => absurd (hu0.trans hw0.symm) hc)
        have hu2 : a2 = f2 := hu2
        have hw2 : c2 = g2 := hw2
        have hu3 : a7 = f7 := hu3
        exact k479 a1 a2 a3 a4 a5 a6 a7 c1 c2 c3 c4 c5 c6 (iv_v v (rg_ (xs (i + 1))) (v (rg_ (xs (i + 2))))) hu1 hw1 (by rw [hw2, hu2, hline]) (hu3 ▸ hroot) _ _ _ hP hD hS (lv_sub hl [0, 1, 2, 3] rfl)
      · refine lv_tableIn (off := 423) (tgt := 456) hx hb dL_law_33 (by decide) (by decide) (by decide +kernel) (by decide) ?_
        refine lv_aload_n hx hb dL_law_456 rfl (lv_at hl 2 rfl) ?_
        refine lv_aload_n hx hb dL_law_457 rfl (lv_at hl 1 rfl) ?_
        refine lv_iload_n hx hb dL_law_458 rfl (lv_at hl 0 rfl) ?_
        refine lv_iconst (v := nI 1) hx hb dL_law_459 (by decide) ?_
        refine lv_iadd hx hb dL_law_460 ?_
        refine ti_ (nI (i + 1)) (nI_add _ _) ?_
        refine sa_ hx hb hX hbl hbA hS (i + 1) rfl (by omega) (by omega) dL_law_461 ?_
        refine cv_I (ci := 0) (n := 1) (As := [.int (xs (i + 1))]) (rest := []) (wr := [o1_ h1 rf rn rx ry rz ra, ar_ rf cA 20 g1, ar_ rn cA 5 g2, ar_ rx cA 5 g3, ar_ ry cA 5 g4, ar_ rz cA 5 g5, ar_ ra cA 5 g6]) (w2 := fun u : Unit => [o0_ h0 qr qn qw qa qb qc qx, ar_ qr cA 20 f1, ar_ qn cA 5 f2, ar_ qw cA 10 f3, ar_ qa cA 5 f4, ar_ qb cA 5 f5, ar_ qc cA 5 f6, ar_ qx cA 5 f7, o1_ h1 rf rn rx ry rz ra, ar_ rf cA 20 g1, ar_ rn cA 5 g2, ar_ rx cA 5 g3, ar_ ry cA 5 g4, ar_ rz cA 5 g5, ar_ ra cA 5 g6]) hx hb hml hown hts hK (m0_trace l D cA h0 qr qn qw qa qb qc qx f1 f2 f3 f4 f5 f6 f7 v hf (xs (i + 1))) (lw_V q138 q139 q140 q11 q141) (by decide +kernel) rfl ⟨rfl, rfl⟩ ⟨Nat.le_of_ble_eq_true rfl, Nat.le_of_ble_eq_true rfl⟩ ⟨Nat.le_refl _, Nat.le_refl _⟩ hP hD hS hA [0, 1, 2, 3, 4, 5, 6, 7] [8, 9, 10, 11, 12, 13, 14] [7, 8, 9, 10, 11, 12, 13, 14, 0, 1, 2, 3, 4, 5, 6] rfl rfl rfl rfl (by decide) (by decide) (by decide) (by decide) (fun _ => rfl) hl.1 rfl (Nat.le_of_ble_eq_true rfl) dL_law_462 (fun r0 u H locs hu hP hD hS => ?_)
        have hP : va_P D wk_Cl [o0_ h0 qr qn qw qa qb qc qx, ar_ qr cA 20 f1, ar_ qn cA 5 f2, ar_ qw cA 10 f3, ar_ qa cA 5 f4, ar_ qb cA 5 f5, ar_ qc cA 5 f6, ar_ qx cA 5 f7, o1_ h1 rf rn rx ry rz ra, ar_ rf cA 20 g1, ar_ rn cA 5 g2, ar_ rx cA 5 g3, ar_ ry cA 5 g4, ar_ rz cA 5 g5, ar_ ra cA 5 g6] H := hP
        have hD : va_D A [o0_ h0 qr qn qw qa qb qc qx, ar_ qr cA 20 f1, ar_ qn cA 5 f2, ar_ qw cA 10 f3, ar_ qa cA 5 f4, ar_ qb cA 5 f5, ar_ qc cA 5 f6, ar_ qx cA 5 f7, o1_ h1 rf rn rx ry rz ra, ar_ rf cA 20 g1, ar_ rn cA 5 g2, ar_ rx cA 5 g3, ar_ ry cA 5 g4, ar_ rz cA 5 g5, ar_ ra cA 5 g6] := hD
        refine lv_aload_n hx hb dL_law_465 rfl (lv_at hl 3 rfl) ?_
        refine lv_aload_n hx hb dL_law_466 rfl (lv_at hl 1 rfl) ?_
        refine lv_iload_n hx hb dL_law_467 rfl (lv_at hl 0 rfl) ?_
        refine lv_iconst (v := nI 1) hx hb dL_law_468 (by decide) ?_
        refine lv_iadd hx hb dL_law_469 ?_
        refine ti_ (nI (i + 1)) (nI_add _ _) ?_
        refine sa_ hx hb hX hbl hbA hS (i + 1) rfl (by omega) (by omega) dL_law_470 ?_
        refine cv_I (ci := 1) (n := 1) (As := [.int (xs (i + 1))]) (rest := [.int r0]) (wr := [o0_ h0 qr qn qw qa qb qc qx, ar_ qr cA 20 f1, ar_ qn cA 5 f2, ar_ qw cA 10 f3, ar_ qa cA 5 f4, ar_ qb cA 5 f5, ar_ qc cA 5 f6, ar_ qx cA 5 f7]) (w2 := fun u : (Nat → Int64) × (Nat → Int64) × (Nat → Int64) × (Nat → Int64) × (Nat → Int64) × (Nat → Int64) => [o0_ h0 qr qn qw qa qb qc qx, ar_ qr cA 20 f1, ar_ qn cA 5 f2, ar_ qw cA 10 f3, ar_ qa cA 5 f4, ar_ qb cA 5 f5, ar_ qc cA 5 f6, ar_ qx cA 5 f7, o1_ h1 rf rn rx ry rz ra, ar_ rf cA 20 u.1, ar_ rn cA 5 u.2.1, ar_ rx cA 5 u.2.2.1, ar_ ry cA 5 u.2.2.2.1, ar_ rz cA 5 u.2.2.2.2.1, ar_ ra cA 5 u.2.2.2.2.2]) hx hb hml hown hts hK (m1_trace l D cA h1 rf rn rx ry rz ra g1 g2 g3 g4 g5 g6 v hg (xs (i + 1))) (lw_V q237 q238 q239 q12 q240) (by decide +kernel) rfl ⟨rfl, rfl⟩ ⟨Nat.le_of_ble_eq_true rfl, Nat.le_of_ble_eq_true rfl⟩ ⟨Nat.le_refl _, Nat.le_refl _⟩ hP hD hS hA [8, 9, 10, 11, 12, 13, 14] [0, 1, 2, 3, 4, 5, 6, 7] [0, 1, 2, 3, 4, 5, 6, 7, 8, 9, 10, 11, 12, 13, 14] rfl rfl rfl rfl (by decide) (by decide) (by decide) (by decide) (fun _ => rfl) hl.1 rfl (Nat.le_of_ble_eq_true rfl) dL_law_471 (fun r1 u H locs hw hP hD hS => ?_)
        obtain ⟨c1, c2, c3, c4, c5, c6⟩ := u
        have hP : va_P D wk_Cl [o0_ h0 qr qn qw qa qb qc qx, ar_ qr cA 20 f1, ar_ qn cA 5 f2, ar_ qw cA 10 f3, ar_ qa cA 5 f4, ar_ qb cA 5 f5, ar_ qc cA 5 f6, ar_ qx cA 5 f7, o1_ h1 rf rn rx ry rz ra, ar_ rf cA 20 c1, ar_ rn cA 5 c2, ar_ rx cA 5 c3, ar_ ry cA 5 c4, ar_ rz cA 5 c5, ar_ ra cA 5 c6] H := hP
        have hD : va_D A [o0_ h0 qr qn qw qa qb qc qx, ar_ qr cA 20 f1, ar_ qn cA 5 f2, ar_ qw cA 10 f3, ar_ qa cA 5 f4, ar_ qb cA 5 f5, ar_ qc cA 5 f6, ar_ qx cA 5 f7, o1_ h1 rf rn rx ry rz ra, ar_ rf cA 20 c1, ar_ rn cA 5 c2, ar_ rx cA 5 c3, ar_ ry cA 5 c4, ar_ rz cA 5 c5, ar_ ra cA 5 c6] := hD
        obtain ⟨hw0, hw1, hw2⟩ := hw
        refine lv_icmp_eq (tgt := 479) hx hb dL_law_474 (by decide) (fun _ => ?_) (fun hc => absurd (hu.trans hw0.symm) hc)
        have hw2 : c2 = g2 := hw2
        exact k479 f1 f2 f3 f4 f5 f6 f7 c1 c2 c3 c4 c5 c6 v hf hw1 (hw2.trans hline) hroot _ _ _ hP hD hS (lv_sub hl [0, 1, 2, 3] rfl)
      · refine lv_tableOut (tgt := 479) hx hb dL_law_33 (Or.inr (by rw [nI_toInt (by omega)]; omega)) (by decide) ?_
        exact k479 f1 f2 f3 f4 f5 f6 f7 g1 g2 g3 g4 g5 g6 v hf hg hline hroot _ _ _ hP hD hS (lv_sub hl [0, 1, 2, 3] rfl)
    · refine lv_iload_n hx hb dL_law_18 rfl (lv_at hl 0 rfl) ?_
      refine lv_aload_n hx hb dL_law_19 rfl (lv_at hl 1 rfl) ?_
      refine va_slen hx hb hX hbl hbA hS dL_law_20 ?_
      refine ti_ (nI L) rfl ?_
      refine lv_bipush (v := nI 6) hx hb dL_law_21 (by decide) ?_
      refine lv_isub hx hb dL_law_23 ?_
      refine ti_ (nI L - nI 6) rfl ?_
      refine lv_icmp_gt (tgt := 485) hx hb dL_law_24 (by decide) (fun _ => ?_) (fun hc => absurd (lt_out i hi (by omega)) hc)
      refine lv_iconst (v := nI 1) hx hb dL_law_485 (by decide) ?_
      refine ti_ 1 (by decide) ?_
      refine va_forget (fun q hq => hAs _ (hS.2.2 q hq)) ?_
      exact lw_ret hx hb hr hlocks dL_law_486
end
section
set_option maxHeartbeats 4000000 in
set_option maxRecDepth 100000 in
/-- THE LAW, from its entry -/
theorem whole_start {p : Program} {e : Env} {s : State} {m : MethodId} {below : List Frame} {meth : Method} {c : Code} (l : Launch) {b L : Nat} {xs : Nat → Int32} (hL : L ≤ 384) (C0 : lw_At p s m meth c b L xs) : W p l e room_1 s m #[Value.ref b] below meth c s.heap [] 0 0 (lw_Z below #[Value.ref b] s) (entryFrame m ([Value.ref b] : List Value).toArray 4) := by
  obtain ⟨hx, hb, hr, hml, hown, hts0, hX, hbl, hlocks, hgv⟩ := id C0
  have hts : ∀ w ∈ lw_all, w.before #[Value.ref b] s = true := fun w h => hts0 w (lw_all_tbl h)
  have hown : s.vm.findClass "Field283Law" = some m.cls := hown
  obtain ⟨c0_, iS0, hKn0⟩ := u_known (C := RX0) (T := TX0) (N := 7) (n := 7) hts in_X0 (hts _ q14)
  obtain ⟨c1_, iS1, hKn1⟩ := u_known (C := RX1) (T := TX1) (N := 6) (n := 6) hts in_X1 (hts _ q143)
  obtain ⟨D, hKc⟩ : ∃ D : va_G, ∀ (k : Nat) (q : vw_C), wk_Cl[k]? = some q → u_Kn s q.1 q.2.1 q.2.2 (D.1 k) (D.2 k) := by
    refine ⟨(fun k => if k = 0 then c0_ else c1_, fun k => if k = 0 then iS0 else iS1), ?_⟩
    intro k q hq
    match k, hq with
    | 0, hq => cases hq; exact hKn0
    | 1, hq => cases hq; exact hKn1
    | k + 2, hq => simp [wk_Cl] at hq
  obtain ⟨A, hAe⟩ : ∃ A : Nat → Prop, A = fun q : Nat => s.heap.size ≤ q := ⟨_, rfl⟩
  have hA : ∀ q : Nat, s.heap.size ≤ q → A q := fun q h => by rw [hAe]; exact h
  have hAs : ∀ q : Nat, A q → s.heap.size ≤ q := fun q h => by rw [hAe] at h; exact h
  have hS : va_S A s.heap s.heap [] := va_S.rf
  have hK : va_K D wk_Cl [] s := ⟨hKc, fun k q h => by simp at h⟩
  have hP : va_P D wk_Cl [] s.heap := fun k q h => by simp at h
  have hD : va_D A [] := ⟨fun i j p q h => by simp at h, fun k q h => by simp at h⟩
  have hl := lv_entry ([.ref b]) (n := 4) (Nat.le_of_ble_eq_true rfl)
  rw [lg_entry_eq]
  generalize (lg_sl ([.ref b]) ++ List.replicate (4 - (lg_sl ([.ref b])).length) Slot.unset).toArray = ls at hl ⊢
  have hl : lv_has ls 4 [(0, .ref b)] := hl
  refine va_new (ci := 0) (fs := [.null, .null, .null, .null, .null, .null, .null]) (C := RX0) (T := TX0) (N := 7) hx hb hts in_X0 tyX0 tyX0_ok hown (hts _ q13) (hts _ q14) (hts _ q11) hK hP hD hS hA rfl (fun j hj => by rcases (show j = 0 ∨ j = 1 ∨ j = 2 ∨ j = 3 ∨ j = 4 ∨ j = 5 ∨ j = 6 by omega) with rfl | rfl | rfl | rfl | rfl | rfl | rfl <;> rfl) (Nat.le_of_ble_eq_true rfl) (Nat.le_of_ble_eq_true rfl) dL_law_0 (fun h0 H hP hD hS => ?_)
  have hP : va_P D wk_Cl [(h0, .inr (0, [.null, .null, .null, .null, .null, .null, .null]))] H := hP
  have hD : va_D A [(h0, .inr (0, [.null, .null, .null, .null, .null, .null, .null]))] := hD
  refine W.widen (k := 1) (n := 7) (by omega) (by omega) ?_
  refine lv_dup hx hb dL_law_3 rfl ?_
  refine cv_C (wr := []) (w2 := fun u : ClassId × (Nat × Nat × Nat × Nat × Nat × Nat × Nat) × ((Nat → Int64) × (Nat → Int64) × (Nat → Int64) × (Nat → Int64) × (Nat → Int64) × (Nat → Int64) × (Nat → Int64)) => [o0_ h0 u.2.1.1 u.2.1.2.1 u.2.1.2.2.1 u.2.1.2.2.2.1 u.2.1.2.2.2.2.1 u.2.1.2.2.2.2.2.1 u.2.1.2.2.2.2.2.2, ar_ u.2.1.1 u.1 20 u.2.2.1, ar_ u.2.1.2.1 u.1 5 u.2.2.2.1, ar_ u.2.1.2.2.1 u.1 10 u.2.2.2.2.1, ar_ u.2.1.2.2.2.1 u.1 5 u.2.2.2.2.2.1, ar_ u.2.1.2.2.2.2.1 u.1 5 u.2.2.2.2.2.2.1, ar_ u.2.1.2.2.2.2.2.1 u.1 5 u.2.2.2.2.2.2.2.1, ar_ u.2.1.2.2.2.2.2.2 u.1 5 u.2.2.2.2.2.2.2.2]) (rest := [.ref h0]) hx hb hml hown hts hK (m0_init l D h0) q17 q11 q15 q16 rfl (by decide +kernel) ⟨rfl, rfl⟩ ⟨Nat.le_of_ble_eq_true rfl, Nat.le_of_ble_eq_true rfl⟩ ⟨Nat.le_of_ble_eq_true rfl, Nat.le_of_ble_eq_true rfl⟩ hP hD hS hA [0] [] [0, 1, 2, 3, 4, 5, 6, 7] rfl rfl (by decide) (by decide) (by decide) (by decide) (fun _ => rfl) hl.1 rfl (Nat.le_of_ble_eq_true rfl) dL_law_4 (fun u H locs hu hK hP hD hS => ?_)
  obtain ⟨cA, ⟨qr, qn, qw, qa, qb, qc, qx⟩, f1, f2, f3, f4, f5, f6, f7⟩ := u
  have hP : va_P D wk_Cl [o0_ h0 qr qn qw qa qb qc qx, ar_ qr cA 20 f1, ar_ qn cA 5 f2, ar_ qw cA 10 f3, ar_ qa cA 5 f4, ar_ qb cA 5 f5, ar_ qc cA 5 f6, ar_ qx cA 5 f7] H := hP
  have hD : va_D A [o0_ h0 qr qn qw qa qb qc qx, ar_ qr cA 20 f1, ar_ qn cA 5 f2, ar_ qw cA 10 f3, ar_ qa cA 5 f4, ar_ qb cA 5 f5, ar_ qc cA 5 f6, ar_ qx cA 5 f7] := hD
  have hK : va_K D wk_Cl [(cA, .long)] s := hK
  obtain ⟨hu1, hu2, hu3⟩ := hu
  have hu1 : ∀ j, f1 j = 0 := hu1
  have hu2 : f2 = (fun _ => 0) := hu2
  have hu3 : rp_ f7 gf_root := hu3
  refine W.widen (k := 8) (n := 62) (by omega) (by omega) ?_
  refine lv_astore_n (lv' := [(1, .ref h0), (0, .ref b)]) hx hb dL_law_7 rfl hl (by decide) rfl (fun ls hl => ?_)
  refine va_new (ci := 1) (fs := [.null, .null, .null, .null, .null, .null]) (C := RX1) (T := TX1) (N := 6) hx hb hts in_X1 tyX1 tyX1_ok hown (hts _ q142) (hts _ q143) (hts _ q12) hK hP hD hS hA rfl (fun j hj => by rcases (show j = 0 ∨ j = 1 ∨ j = 2 ∨ j = 3 ∨ j = 4 ∨ j = 5 by omega) with rfl | rfl | rfl | rfl | rfl | rfl <;> rfl) (Nat.le_of_ble_eq_true rfl) (Nat.le_of_ble_eq_true rfl) dL_law_8 (fun h1 H hP hD hS => ?_)
  have hP : va_P D wk_Cl [o0_ h0 qr qn qw qa qb qc qx, ar_ qr cA 20 f1, ar_ qn cA 5 f2, ar_ qw cA 10 f3, ar_ qa cA 5 f4, ar_ qb cA 5 f5, ar_ qc cA 5 f6, ar_ qx cA 5 f7, (h1, .inr (1, [.null, .null, .null, .null, .null, .null]))] H := hP
  have hD : va_D A [o0_ h0 qr qn qw qa qb qc qx, ar_ qr cA 20 f1, ar_ qn cA 5 f2, ar_ qw cA 10 f3, ar_ qa cA 5 f4, ar_ qb cA 5 f5, ar_ qc cA 5 f6, ar_ qx cA 5 f7, (h1, .inr (1, [.null, .null, .null, .null, .null, .null]))] := hD
  refine W.widen (k := 9) (n := 68) (by omega) (by omega) ?_
  refine lv_dup hx hb dL_law_11 rfl ?_
  refine cv_C (wr := [o0_ h0 qr qn qw qa qb qc qx, ar_ qr cA 20 f1, ar_ qn cA 5 f2, ar_ qw cA 10 f3, ar_ qa cA 5 f4, ar_ qb cA 5 f5, ar_ qc cA 5 f6, ar_ qx cA 5 f7]) (w2 := fun u : ClassId × (Nat × Nat × Nat × Nat × Nat × Nat) × ((Nat → Int64) × (Nat → Int64) × (Nat → Int64) × (Nat → Int64) × (Nat → Int64) × (Nat → Int64)) => [o0_ h0 qr qn qw qa qb qc qx, ar_ qr cA 20 f1, ar_ qn cA 5 f2, ar_ qw cA 10 f3, ar_ qa cA 5 f4, ar_ qb cA 5 f5, ar_ qc cA 5 f6, ar_ qx cA 5 f7] ++ [o1_ h1 u.2.1.1 u.2.1.2.1 u.2.1.2.2.1 u.2.1.2.2.2.1 u.2.1.2.2.2.2.1 u.2.1.2.2.2.2.2, ar_ u.2.1.1 u.1 20 u.2.2.1, ar_ u.2.1.2.1 u.1 5 u.2.2.2.1, ar_ u.2.1.2.2.1 u.1 5 u.2.2.2.2.1, ar_ u.2.1.2.2.2.1 u.1 5 u.2.2.2.2.2.1, ar_ u.2.1.2.2.2.2.1 u.1 5 u.2.2.2.2.2.2.1, ar_ u.2.1.2.2.2.2.2 u.1 5 u.2.2.2.2.2.2.2]) (rest := [.ref h1]) hx hb hml hown hts hK (m1_init l D h1) q146 q12 q144 q145 rfl (by decide +kernel) ⟨rfl, rfl⟩ ⟨Nat.le_of_ble_eq_true rfl, Nat.le_of_ble_eq_true rfl⟩ ⟨Nat.le_of_ble_eq_true rfl, Nat.le_of_ble_eq_true rfl⟩ hP hD hS hA [8] [0, 1, 2, 3, 4, 5, 6, 7] [0, 1, 2, 3, 4, 5, 6, 7, 8, 9, 10, 11, 12, 13, 14] rfl rfl (by decide) (by decide) (by decide) (by decide) (fun _ => rfl) hl.1 rfl (Nat.le_of_ble_eq_true rfl) dL_law_12 (fun u H locs hw hK2 hP hD hS => ?_)
  obtain ⟨cB, ⟨rf, rn, rx, ry, rz, ra⟩, g1, g2, g3, g4, g5, g6⟩ := u
  obtain rfl : cB = cA := wk_cA hK hK2
  have hP : va_P D wk_Cl [o0_ h0 qr qn qw qa qb qc qx, ar_ qr cB 20 f1, ar_ qn cB 5 f2, ar_ qw cB 10 f3, ar_ qa cB 5 f4, ar_ qb cB 5 f5, ar_ qc cB 5 f6, ar_ qx cB 5 f7, o1_ h1 rf rn rx ry rz ra, ar_ rf cB 20 g1, ar_ rn cB 5 g2, ar_ rx cB 5 g3, ar_ ry cB 5 g4, ar_ rz cB 5 g5, ar_ ra cB 5 g6] H := hP
  have hD : va_D A [o0_ h0 qr qn qw qa qb qc qx, ar_ qr cB 20 f1, ar_ qn cB 5 f2, ar_ qw cB 10 f3, ar_ qa cB 5 f4, ar_ qb cB 5 f5, ar_ qc cB 5 f6, ar_ qx cB 5 f7, o1_ h1 rf rn rx ry rz ra, ar_ rf cB 20 g1, ar_ rn cB 5 g2, ar_ rx cB 5 g3, ar_ ry cB 5 g4, ar_ rz cB 5 g5, ar_ ra cB 5 g6] := hD
  obtain ⟨hw1, hw2⟩ := hw
  have hw1 : ∀ j, g1 j = 0 := hw1
  have hw2 : g2 = (fun _ => 0) := hw2
  refine W.widen (k := 600000) (n := 7290000) (by omega) (by omega) ?_
  refine lv_astore_n (lv' := [(2, .ref h1), (1, .ref h0), (0, .ref b)]) hx hb dL_law_15 rfl hl (by decide) rfl (fun ls hl => ?_)
  refine lv_iconst (v := nI 0) hx hb dL_law_16 (by decide) ?_
  refine lv_istore_n (lv' := [(3, .int (nI 0)), (2, .ref h1), (1, .ref h0), (0, .ref b)]) hx hb dL_law_17 rfl hl (by decide) rfl (fun ls hl => ?_)
  exact law_loop hL C0 hK hA hAs h0 qr qn qw qa qb qc qx h1 rf rn rx ry rz ra (L + 1) 0 f1 f2 f3 f4 f5 f6 f7 g1 g2 g3 g4 g5 g6 (fun _ => 0#283) (by omega) (by omega) (rgs_0 hu1) (rgs_0 hw1) (hw2.trans hu2.symm) hu3 _ _ _ hP hD hS (lv_sub hl [0, 3, 2, 1] rfl)
end
section
set_option maxHeartbeats 4000000 in
theorem lw_walk (l : Launch) (b : Addr) (xs : List Int32) : MetFree l x (headSpec (Jvm.Cond.code x code maxLocals ret :: tables_1) room_1) (lw_P b xs) (fun _ _ _ _ _ => True) lw_Q := by
  refine MetFree.of_bodyS (code := code) (maxLocals := maxLocals) (ret := ret) (by decide) ?_ ?_
  · intro args s m h hn
    obtain ⟨meth, c, h1, h2, h3, h4, h5, h6, -, -⟩ := Cond.code_spec hn (atoms_spec (ws := Jvm.Cond.code x code maxLocals ret :: tables_1) h _ List.mem_cons_self)
    exact ⟨meth, c, h1, h2, h3, h4, h5, h6⟩
  · intro p e s m args below meth c s₁ B hml0 hP _
    obtain ⟨rfl, hx, hbd, hgv⟩ := hP
    obtain ⟨scr, harrAt, hlist, hof, hsmall⟩ := hx
    obtain ⟨hcb, hkn, -, -⟩ := State.arrayAt?_spec harrAt
    have hown : s.vm.findClass R_law = some m.cls := findClass_of_methodNamed B.named
    have hts0 : ∀ c ∈ (Jvm.Cond.code x code maxLocals ret :: tables_1), c.before #[Value.ref b] s = true := atoms_spec (ws := Jvm.Cond.code x code maxLocals ret :: tables_1) B.pre
    have hts : ∀ w ∈ lw_tbl, w.before #[Value.ref b] s = true := k2_hts_sels lw_privs (fun w hw => hts0 w (List.mem_cons_of_mem _ hw)) lw_privs_ok
    have hml : c.maxLocals = 4 := B.maxLocals_eq (hts0 _ List.mem_cons_self)
    have X₀ : Stand p l e room_1 s m #[Value.ref b] below meth c s₁ [] 0 0 := Stand.of_body B
    have hh0 : s₁.heap = s.heap := by rw [B.state]; rfl
    have hsz : scr.slots.size = xs.length := by rw [← Array.length_toList, hlist, List.length_map]
    have hval : ∀ j : Nat, j < xs.length → scr.slots[j]? = some (.int (xs.getD j 0)) := fun j hj => by
      rw [← Array.getElem?_toList, hlist]
      simp [hj]
    have hbl : b < s.heap.size := (Array.getElem?_eq_some_iff.mp hcb).1
    have hX : va_X b xs.length (fun j => xs.getD j 0) s s.heap := ⟨scr, hcb, hof, hkn, hsz, hval⟩
    have K : W p l e room_1 s m #[Value.ref b] below meth c s₁.heap [] 0 0 (lw_Z below #[Value.ref b] s) (entryFrame m ([Value.ref b] : List Value).toArray 4) := by
      rw [hh0]
      exact whole_start l hbd ⟨B.exec, B.bytes, B.returns, hml, hown, hts, hX, hbl, B.notSynchronized, hgv⟩
    obtain ⟨t, a1, o, b1, b2, b3⟩ := K s₁ rfl X₀
    exact ⟨t, o, a1, b1, b2, b3⟩
theorem lw_pre_spec {args : Array Value} {s : State} (h : (Jvm.Cond.and given_1 narrow_1).before args s = true) (hr : rest_1_c.before args s = true) : ∃ (b : Addr) (xs : List Int32), lw_P b xs args s := by
  have hs := flat_of_before _ h
  have hq := flat_of_before _ hr
  have hc : (Cond.count 1).before args s = true := hs _ (by decide +kernel)
  have harr : (Cond.arrayOf (.arg 0) .int).before args s = true := hs _ (by decide +kernel)
  have hle : (Cond.le (.length (.arg 0)) (.int 384)).before args s = true := hs _ (by decide +kernel)
  have hlen : (Cond.isInt (.length (.arg 0))).before args s = true := hq _ (by decide +kernel)
  have hall : (Cond.all (.arg 0) (.isInt (.elem (.arg 0) (.index 0)))).before args s = true := hq _ (by decide +kernel)
  obtain ⟨b, xs, hb, hx⟩ := State.ints_of_pre rfl harr hlen hall
  have hsm : xs.length < 2 ^ 31 := hx.choose_spec.2.2.2
  have hev : (Term.length (.arg 0)).eval args s none [] s = some (.int xs.length.toInt32) := hx.length_eval hb
  have hv := Cond.le_ints hev (show (Term.int 384).eval args s none [] s = some (.int 384) from rfl)
  have hd : xs.length.toInt32 ≤ 384 := by
    simpa [Cond.before, Cond.holds, hv] using hle
  have hN : xs.length ≤ 384 := (Int32.ofNat_le_ofNat hsm (by decide)).mp (show Int32.ofNat xs.length ≤ Int32.ofNat 384 from hd)
  exact ⟨b, xs, Cond.one_arg hc (show args[0]? = some (.ref b) from hb), hx, hN, h⟩
theorem lw_comes (l : Launch) : Comes l x (Jvm.Cond.code x code maxLocals ret :: tables_1) room_1 (fun tb e args s => Calls_1 tb e args s ∧ rest_1 tb e args s ∧ Pre_1 tb e args s)
    (fun _ _ args s o t => lw_Q args s o t) := by
  intro p e ha hc hk s m args below hf hfit hheap happ hpre
  obtain ⟨b, xs, hP⟩ := lw_pre_spec hpre.2.2 hpre.2.1
  obtain ⟨k, o, h1, h2, h3, hQ⟩ := lw_walk l b xs p e ha hc hk s m args below hf ((Spec.applies_iff_loose hf).mp happ).1 hP trivial
  exact ⟨k, o, h1, h2, h3, hQ⟩
theorem lw_frame {s t : State} {o : Outcome} {args : Array Value} (h : Framed s o t [] 600000 7290000) :
    Framed s o t (fieldLocs frame_1_writes args s ++ arrayLocs frame_1_arrays args s ++ staticLocs frame_1_statics s) 600000 7290000 := h
theorem lw_limb (L : Cond) (hL : ∀ (args : Array Value) (s t : State), L.after args s (.returned (some (.int 1))) t = true) :
    ArmFor flags0 classFile x code maxLocals ret World_1 tables_1 room_1 Calls_1 rest_1 Pre_1
      (fun tb e a s o t => postC L tb e a s o t ∧ Framed s o t (fieldLocs frame_1_writes a s ++ arrayLocs frame_1_arrays a s ++ staticLocs frame_1_statics s) 600000 7290000) := by
  intro l _ _ _ p e ha hc hk s m args below hf hfit hheap happ hpre
  obtain ⟨k, o, h1, h2, h3, rfl, hF⟩ := lw_comes l p e ha hc hk s m args below hf hfit hheap happ hpre
  exact ⟨k, _, h1, h2, h3, hL args s _, lw_frame hF⟩
theorem i_vc : Claimed_1_1 ∧ Claimed_1_2 := ⟨lw_limb limb_1_1 (fun args s t => by simp [limb_1_1, Cond.after, Cond.holds, Cond.value]), lw_limb limb_1_2 (fun args s t => Cond.after_iff.mpr (by
  first | (rw [show limb_1_2 = Cond.eq .result (.int 1) from rfl, Cond.eq_ints (x := 1) (y := 1) rfl rfl]; simp; done) | (simp [limb_1_2, Cond.value, Term.eval]; done)))⟩
end
