section
theorem pk_us {f : Nat → Int32} {k : Nat} {x : Int32} : upd f k x k = x := if_pos rfl
theorem pk_un {f : Nat → Int32} {k j : Nat} {x : Int32} (h : j ≠ k) : upd f k x j = f j := if_neg h
theorem pk_sub {a b : Nat} (h : b ≤ a) : nI a - nI b = nI (a - b) := by
  obtain ⟨c, rfl⟩ : ∃ c, a = c + b := ⟨a - b, by omega⟩
  rw [← nI_add, Int32.add_sub_cancel, Nat.add_sub_cancel]
theorem pk_m1 (n : Nat) : nI (n + 1) + (-1) = nI n := by
  rw [← nI_1, Int32.add_assoc, show (1 : Int32) + (-1) = 0 from rfl, Int32.add_zero]
theorem pk_mul (a b : Nat) : nI a * nI b = nI (a * b) := (Int32.ofNat_mul a b).symm
theorem pk_div {a d : Nat} (ha : a < 2 ^ 31) (h0 : 0 < d) (hd : d < 2 ^ 31) : nI a / nI d = nI (a / d) := by
  apply Int32.toInt_inj.mp
  rw [lg_idiv_nonneg (by rw [nI_toInt ha]; omega) (by rw [nI_toInt hd]; omega), nI_toInt ha, nI_toInt hd, nI_toInt (Nat.lt_of_le_of_lt (Nat.div_le_self a d) ha)]
  first | rfl | exact (Int.natCast_ediv _ _).symm
theorem pk_rem {a d : Nat} (ha : a < 2 ^ 31) (h0 : 0 < d) (hd : d < 2 ^ 31) : nI a - nI a / nI d * nI d = nI (a % d) := by
  rw [pk_div ha h0 hd, pk_mul, pk_sub (Nat.div_mul_le_self a d)]
  exact congrArg nI (by have := Nat.div_add_mod' a d; omega)
theorem pk_sub_toInt {a b : Nat} (ha : a < 2 ^ 30) (hb : b < 2 ^ 30) : (nI a - nI b).toInt = (a : Int) - b := by
  rw [Int32.toInt_sub, nI_toInt (by omega), nI_toInt (by omega)]
  exact Int.bmod_eq_of_le (by omega) (by omega)
theorem pk_sneg {a b : Nat} (hb : b < 2 ^ 30) (h : a < b) : nI a - nI b < 0 := by
  rw [Int32.lt_iff_toInt_lt, pk_sub_toInt (by omega) hb, show (0 : Int32).toInt = 0 from by decide]
  omega
theorem pk_ix (x : Int32) {n : Nat} (hn : n < 2 ^ 31) : x < 0 ∨ nI n ≤ x ∨ ∃ j : Nat, j < n ∧ x = nI j := by
  by_cases h : x < 0
  · exact Or.inl h
  · obtain ⟨j, hj, rfl⟩ := nI_of h
    by_cases h2 : j < n
    · exact Or.inr (Or.inr ⟨j, h2, rfl⟩)
    · exact Or.inr (Or.inl (nI_le (by omega) hj))
theorem pk_le {x y : Int32} {A B : Prop} (a b : Nat) (f : a ≤ b → A) (g : b < a → B) (hx : x = nI a := by rfl) (hy : y = nI b := by rfl) (ha : a < 2 ^ 31 := by omega) (hb : b < 2 ^ 31 := by omega) : (x ≤ y → A) ∧ (¬ x ≤ y → B) := by
  subst hx hy
  rw [nI_leI ha hb]
  exact ⟨f, fun z => g (by omega)⟩
theorem pk_lt {x y : Int32} {A B : Prop} (a b : Nat) (f : a < b → A) (g : b ≤ a → B) (hx : x = nI a := by rfl) (hy : y = nI b := by rfl) (ha : a < 2 ^ 31 := by omega) (hb : b < 2 ^ 31 := by omega) : (x < y → A) ∧ (¬ x < y → B) := by
  subst hx hy
  rw [nI_ltI ha hb]
  exact ⟨f, fun z => g (by omega)⟩
theorem pk_eq {x y : Int32} {A B : Prop} (a b : Nat) (f : a = b → A) (g : a ≠ b → B) (hx : x = nI a := by rfl) (hy : y = nI b := by rfl) (ha : a < 2 ^ 31 := by omega) (hb : b < 2 ^ 31 := by omega) : (x = y → A) ∧ (¬ x = y → B) := by
  subst hx hy
  rw [nI_eq ha hb]
  exact ⟨f, g⟩
theorem pk_in {x : Int32} (n N : Nat) (h : n < N) (hx : x = nI n := by rfl) (hN : N < 2 ^ 31 := by omega) : vp_in x N := by
  subst hx
  exact vp_in_nI h hN
theorem pk_cl {x : Int32} (n : Nat) (hx : x = nI n := by rfl) (h : n < 2 ^ 31 := by omega) : x.toNatClampNeg = n := by
  subst hx
  exact nI_clamp h
theorem pk_tn {n : Nat} (h : n < 2 ^ 32) : (nI n).toBitVec.toNat = n := Nat.mod_eq_of_lt h
theorem pk_and (x : Int32) {m : Int32} (k : Nat) (hm : m.toBitVec.toNat = 2 ^ k - 1) : x &&& m = nI (x.toBitVec.toNat % 2 ^ k) := by
  apply Int32.toBitVec_inj.mp
  apply BitVec.eq_of_toNat_eq
  rw [Int32.toBitVec_and, BitVec.toNat_and, hm, Nat.and_two_pow_sub_one_eq_mod]
  show _ = (BitVec.ofNat 32 _).toNat
  rw [BitVec.toNat_ofNat]
  exact (Nat.mod_eq_of_lt (Nat.lt_of_le_of_lt (Nat.mod_le _ _) x.toBitVec.isLt)).symm
theorem pk_andN {n : Nat} (h : n < 2 ^ 32) {m : Int32} (k : Nat) (hm : m.toBitVec.toNat = 2 ^ k - 1) : nI n &&& m = nI (n % 2 ^ k) := by
  rw [pk_and _ k hm, pk_tn h]
theorem pk_shl (a s : Int32) (k : Nat) (hs : (s.toBitVec.smod 32).toNat = k) : (a <<< s).toBitVec.toNat = a.toBitVec.toNat * 2 ^ k % 2 ^ 32 := by
  show (a.toBitVec <<< (s.toBitVec.smod 32).toNat).toNat = _
  rw [hs, BitVec.toNat_shiftLeft, Nat.shiftLeft_eq]
theorem pk_shlN {n : Nat} (s : Int32) (k : Nat) (hs : (s.toBitVec.smod 32).toNat = k) (h : n * 2 ^ k < 2 ^ 32) : nI n <<< s = nI (n * 2 ^ k) := by
  apply Int32.toBitVec_inj.mp
  apply BitVec.eq_of_toNat_eq
  have hn : n < 2 ^ 32 := Nat.lt_of_le_of_lt (Nat.le_mul_of_pos_right n (Nat.two_pow_pos k)) h
  rw [pk_shl _ _ k hs, pk_tn hn, pk_tn h, Nat.mod_eq_of_lt h]
theorem pk_shr (a s : Int32) (k : Nat) (hs : (s.toBitVec.smod 32).toNat = k) : (a >>> s).toInt = a.toInt >>> k := by
  show (a.toBitVec.sshiftRight (s.toBitVec.smod 32).toNat).toInt = _
  rw [hs, BitVec.toInt_sshiftRight]
  rfl
theorem pk_shrN {n : Nat} (h : n < 2 ^ 31) (s : Int32) (k : Nat) (hs : (s.toBitVec.smod 32).toNat = k) : nI n >>> s = nI (n / 2 ^ k) := by
  apply Int32.toInt_inj.mp
  have h2 : n / 2 ^ k ≤ n := Nat.div_le_self _ _
  rw [pk_shr _ _ k hs, nI_toInt h, nI_toInt (by omega), Int.shiftRight_eq_div_pow]
  rfl
theorem pk_nb (z : Int32) : narrow .byte (.int z.toInt8.toInt32) = .int z.toInt8.toInt32 := congrArg Value.int (by simp)
theorem pk_vb (z : Int32) : vp_nar .byte z.toInt8.toInt32 = z.toInt8.toInt32 := by rw [vp_nar_byte]; simp
theorem s_l : ∀ n, n < 32 → ((nI n &&& 31).toBitVec.smod 32).toNat = n := by decide +kernel
end
section
/-! sums over naturals -/
def ad_sm (f : Nat → Nat) : Nat → Nat
  | 0 => 0
  | n + 1 => ad_sm f n + f n
theorem ad_sm_c {f g : Nat → Nat} : ∀ {n : Nat}, (∀ i, i < n → f i = g i) → ad_sm f n = ad_sm g n
  | 0, _ => rfl
  | n + 1, h => by
    show ad_sm f n + f n = ad_sm g n + g n
    rw [ad_sm_c (n := n) (fun i hi => h i (by omega)), h n (by omega)]
theorem ad_sm_0 {f : Nat → Nat} : ∀ {n : Nat}, (∀ i, i < n → f i = 0) → ad_sm f n = 0
  | 0, _ => rfl
  | n + 1, h => by
    show ad_sm f n + f n = 0
    rw [ad_sm_0 (n := n) (fun i hi => h i (by omega)), h n (by omega)]
theorem ad_sm_add (f g : Nat → Nat) : ∀ n, ad_sm (fun i => f i + g i) n = ad_sm f n + ad_sm g n
  | 0 => rfl
  | n + 1 => by
    show ad_sm (fun i => f i + g i) n + (f n + g n) = ad_sm f n + f n + (ad_sm g n + g n)
    rw [ad_sm_add f g n]; omega
theorem ad_sm_mul (a : Nat) (f : Nat → Nat) : ∀ n, ad_sm (fun i => a * f i) n = a * ad_sm f n
  | 0 => rfl
  | n + 1 => by
    show ad_sm (fun i => a * f i) n + a * f n = a * (ad_sm f n + f n)
    rw [ad_sm_mul a f n, Nat.mul_add]
theorem ad_sm_mulr (a : Nat) (f : Nat → Nat) (n : Nat) : ad_sm (fun i => f i * a) n = ad_sm f n * a := by
  rw [Nat.mul_comm, ← ad_sm_mul]
  exact ad_sm_c (fun i _ => Nat.mul_comm _ _)
theorem ad_sm_swap (f : Nat → Nat → Nat) (m : Nat) : ∀ n, ad_sm (fun i => ad_sm (fun j => f i j) m) n = ad_sm (fun j => ad_sm (fun i => f i j) n) m
  | 0 => (ad_sm_0 (fun _ _ => rfl)).symm
  | n + 1 => by
    show ad_sm (fun i => ad_sm (fun j => f i j) m) n + ad_sm (fun j => f n j) m = ad_sm (fun j => ad_sm (fun i => f i j) n + f n j) m
    rw [ad_sm_swap f m n, ad_sm_add]
theorem ad_sm_1 {f : Nat → Nat} {k : Nat} : ∀ {n : Nat}, k < n → (∀ i, i < n → i ≠ k → f i = 0) → ad_sm f n = f k
  | 0, h, _ => absurd h (Nat.not_lt_zero k)
  | n + 1, h, z => by
    show ad_sm f n + f n = f k
    by_cases e : n = k
    · rw [ad_sm_0 (n := n) (fun i hi => z i (by omega) (by omega)), e, Nat.zero_add]
    · rw [ad_sm_1 (n := n) (by omega) (fun i hi => z i (by omega)), z n (by omega) e, Nat.add_zero]
theorem ad_sm_app (f : Nat → Nat) (a : Nat) : ∀ b, ad_sm f (a + b) = ad_sm f a + ad_sm (fun i => f (a + i)) b
  | 0 => rfl
  | b + 1 => by
    show ad_sm f (a + b) + f (a + b) = ad_sm f a + (ad_sm (fun i => f (a + i)) b + f (a + b))
    rw [ad_sm_app f a b]; omega
theorem ad_sm_blk (f : Nat → Nat) (b : Nat) : ∀ a, ad_sm f (a * b) = ad_sm (fun m => ad_sm (fun c => f (m * b + c)) b) a
  | 0 => by rw [Nat.zero_mul]; rfl
  | a + 1 => by
    show _ = ad_sm (fun m => ad_sm (fun c => f (m * b + c)) b) a + ad_sm (fun c => f (a * b + c)) b
    rw [Nat.succ_mul, ad_sm_app, ad_sm_blk f b a]
theorem ad_3b {f : Nat → Nat} {s N : Nat} (hs : s < N) (z : ∀ r, r < N → (s < r ∨ r + 2 < s) → f r = 0) : ad_sm f N = (if 2 ≤ s then f (s - 2) else 0) + (if 1 ≤ s then f (s - 1) else 0) + f s := by
  obtain ⟨d, rfl⟩ : ∃ d, N = (s + 1) + d := ⟨N - (s + 1), by omega⟩
  rw [ad_sm_app, ad_sm_0 (f := fun i => f (s + 1 + i)) (fun i hi => z _ (by omega) (by omega)), Nat.add_zero]
  show ad_sm f s + f s = _
  match s, z with
  | 0, _ => rfl
  | 1, _ => rfl
  | j + 2, z =>
    show ad_sm f j + f j + f (j + 1) + f (j + 2) = _
    rw [ad_sm_0 (n := j) (fun i hi => z i (by omega) (by omega)), if_pos (by omega), if_pos (by omega)]
    show 0 + f j + f (j + 1) + f (j + 2) = f j + f (j + 1) + f (j + 2)
    omega
theorem ad_3f {f : Nat → Nat} {s N : Nat} (hs : s < N) (z : ∀ r, r < N → (r < s ∨ s + 2 < r) → f r = 0) : ad_sm f N = f s + (if s + 1 < N then f (s + 1) else 0) + (if s + 2 < N then f (s + 2) else 0) := by
  obtain ⟨d, rfl⟩ : ∃ d, N = s + d := ⟨N - s, by omega⟩
  rw [ad_sm_app, ad_sm_0 (n := s) (fun i hi => z i (by omega) (by omega)), Nat.zero_add]
  match d, hs, z with
  | 0, hs, _ => omega
  | 1, _, _ =>
    rw [if_neg (by omega), if_neg (by omega)]
    show 0 + f (s + 0) = _
    rw [Nat.add_zero]; omega
  | 2, _, _ =>
    rw [if_pos (by omega), if_neg (by omega)]
    show 0 + f (s + 0) + f (s + 1) = _
    rw [Nat.add_zero]; omega
  | e + 3, _, z =>
    rw [if_pos (by omega), if_pos (by omega), Nat.add_comm e 3, ad_sm_app, ad_sm_0 (f := fun i => f (s + (3 + i))) (fun i hi => z _ (by omega) (by omega))]
    show 0 + f (s + 0) + f (s + 1) + f (s + 2) + 0 = _
    rw [Nat.add_zero s]; omega
/-! paths -/
def ad_pth : Nat → Nat → List Nat
  | 0, _ => []
  | n + 1, c => (c / 4 ^ n % 4) :: ad_pth n c
theorem ad_pth_l : ∀ n c, (ad_pth n c).length = n
  | 0, _ => rfl
  | n + 1, c => congrArg (· + 1) (ad_pth_l n c)
theorem ad_pth_3 : ∀ n c m, m ∈ ad_pth n c → m ≤ 3
  | 0, _, m, h => nomatch h
  | n + 1, c, m, h => by
    rcases List.mem_cons.mp h with h | h
    · omega
    · exact ad_pth_3 n c m h
theorem ad_pth_c : ∀ (k c d : Nat), c % 4 ^ k = d % 4 ^ k → ad_pth k c = ad_pth k d
  | 0, _, _, _ => rfl
  | k + 1, c, d, h => by
    have h1 : c / 4 ^ k % 4 = d / 4 ^ k % 4 := by
      rw [← Nat.mod_mul_right_div_self c (4 ^ k) 4, ← Nat.mod_mul_right_div_self d (4 ^ k) 4, ← Nat.pow_succ, h]
    have h2 : c % 4 ^ k = d % 4 ^ k := by
      rw [← Nat.mod_mul_right_mod c (4 ^ k) 4, ← Nat.mod_mul_right_mod d (4 ^ k) 4, ← Nat.pow_succ, h]
    show (c / 4 ^ k % 4) :: ad_pth k c = (d / 4 ^ k % 4) :: ad_pth k d
    rw [h1, ad_pth_c k c d h2]
theorem ad_pth_b {n m c : Nat} (hm : m < 4) (hc : c < 4 ^ n) : ad_pth (n + 1) (m * 4 ^ n + c) = m :: ad_pth n c := by
  have h1 : (m * 4 ^ n + c) / 4 ^ n % 4 = m := by
    rw [Nat.mul_comm, Nat.mul_add_div (Nat.pow_pos (by decide)), Nat.div_eq_of_lt hc, Nat.add_zero, Nat.mod_eq_of_lt hm]
  show ((m * 4 ^ n + c) / 4 ^ n % 4) :: ad_pth n (m * 4 ^ n + c) = _
  rw [h1, ad_pth_c n (m * 4 ^ n + c) c (by rw [Nat.mul_comm, Nat.mul_add_mod])]
theorem ad_sp_s (n : Nat) (f : List Nat → Nat) : ad_sm (fun c => f (ad_pth (n + 1) c)) (4 ^ (n + 1)) = ad_sm (fun m => ad_sm (fun c => f (m :: ad_pth n c)) (4 ^ n)) 4 := by
  rw [Nat.pow_succ, Nat.mul_comm, ad_sm_blk]
  exact ad_sm_c (fun m hm => ad_sm_c (fun c hc => by rw [ad_pth_b hm hc]))
/-- every list of n marks is a path -/
theorem ad_pth_e : ∀ (ps : List Nat), (∀ m, m ∈ ps → m ≤ 3) → ∃ c, c < 4 ^ ps.length ∧ ad_pth ps.length c = ps
  | [], _ => ⟨0, by decide, rfl⟩
  | m :: ps, h => by
    obtain ⟨c, hc, e⟩ := ad_pth_e ps (fun a ha => h a (List.mem_cons_of_mem _ ha))
    have hm : m ≤ 3 := h m List.mem_cons_self
    refine ⟨m * 4 ^ ps.length + c, ?_, ?_⟩
    · show _ < 4 ^ (ps.length + 1)
      rw [Nat.pow_succ]
      have : m * 4 ^ ps.length ≤ 3 * 4 ^ ps.length := Nat.mul_le_mul_right _ hm
      omega
    · show ad_pth (ps.length + 1) _ = _
      rw [ad_pth_b (by omega) hc, e]
def ad_wt (w : Nat → Nat) : Nat → List Nat → Nat
  | _, [] => 1
  | t, m :: ps => w (t * 4 + m) * ad_wt w (t + 1) ps
def ad_rd : Nat → List Nat → List Nat
  | _, [] => []
  | p, m :: ps => if m ≠ p ∧ m ≠ 0 then m :: ad_rd m ps else ad_rd m ps
def ad_mt (g : Bool) : List Nat → List Nat → Bool
  | [], [] => true
  | [], _ :: _ => g
  | _ :: _, [] => false
  | a :: as, b :: bs => if a = b then ad_mt g as bs else false
def ad_lb (l : Nat → Nat) : Nat → Nat → List Nat
  | _, 0 => []
  | k, n + 1 => l k :: ad_lb l (k + 1) n
theorem ad_lb_l (l : Nat → Nat) : ∀ k n, (ad_lb l k n).length = n
  | _, 0 => rfl
  | k, n + 1 => congrArg (· + 1) (ad_lb_l l (k + 1) n)
theorem ad_mt_t : ∀ bs, ad_mt true [] bs = true
  | [] => rfl
  | _ :: _ => rfl
/-! places -/
def ad_mk (l : Nat → Nat) (s : Nat) : Nat := if s % 2 = 0 then 0 else l (s / 2)
theorem ad_mk_e (l : Nat → Nat) (k : Nat) : ad_mk l (2 * k) = 0 := if_pos (by omega)
theorem ad_mk_o (l : Nat → Nat) (k : Nat) : ad_mk l (2 * k + 1) = l k := by
  unfold ad_mk
  rw [if_neg (by omega), show (2 * k + 1) / 2 = k by omega]
def ad_ld (l : Nat → Nat) (r s : Nat) : Bool := decide (s = r ∨ s = r + 1 ∨ (s = r + 2 ∧ s % 2 = 1 ∧ ad_mk l s ≠ ad_mk l r))
theorem ad_ld_i {l : Nat → Nat} {r s : Nat} : ad_ld l r s = true ↔ (s = r ∨ s = r + 1 ∨ (s = r + 2 ∧ s % 2 = 1 ∧ ad_mk l s ≠ ad_mk l r)) := decide_eq_true_iff
theorem ad_ld_r {l : Nat → Nat} {r s : Nat} (h : ad_ld l r s = true) : r ≤ s ∧ s ≤ r + 2 := by
  have := ad_ld_i.mp h
  omega
theorem ad_mk_3 {l : Nat → Nat} (h3 : ∀ j, l j ≤ 3) (s : Nat) : ad_mk l s ≤ 3 := by
  unfold ad_mk
  split
  · omega
  · exact h3 _
def ad_ac (g : Bool) (l : Nat → Nat) (L s : Nat) (ps : List Nat) : Bool := ad_mt g (ad_lb l ((s + 1) / 2) (L - (s + 1) / 2)) (ad_rd (ad_mk l s) ps)
theorem ad_ac_0 (g : Bool) (l : Nat → Nat) (L : Nat) (ps : List Nat) : ad_ac g l L 0 ps = ad_mt g (ad_lb l 0 L) (ad_rd 0 ps) := rfl
theorem ad_ac_n (g : Bool) (l : Nat → Nat) (L s : Nat) : ad_ac g l L s [] = decide (2 * L ≤ s + 1) := by
  show ad_mt g (ad_lb l ((s + 1) / 2) (L - (s + 1) / 2)) [] = _
  cases h : L - (s + 1) / 2 with
  | zero => exact (decide_eq_true (by omega)).symm
  | succ n => exact (decide_eq_false (by omega)).symm
theorem ad_ac_t {l : Nat → Nat} {L s : Nat} (h : 2 * L ≤ s + 1) (ps : List Nat) : ad_ac true l L s ps = true := by
  unfold ad_ac
  rw [show L - (s + 1) / 2 = 0 by omega]
  exact ad_mt_t _
theorem ad_ace (g : Bool) (l : Nat → Nat) (L k : Nat) (ps : List Nat) : ad_ac g l L (2 * k) ps = ad_mt g (ad_lb l k (L - k)) (ad_rd 0 ps) := by
  unfold ad_ac
  rw [ad_mk_e, show (2 * k + 1) / 2 = k by omega]
theorem ad_aco (g : Bool) (l : Nat → Nat) (L k : Nat) (ps : List Nat) : ad_ac g l L (2 * k + 1) ps = ad_mt g (ad_lb l (k + 1) (L - (k + 1))) (ad_rd (l k) ps) := by
  unfold ad_ac
  rw [ad_mk_o, show (2 * k + 1 + 1) / 2 = k + 1 by omega]
theorem ad_rd_y {p m : Nat} (ps : List Nat) (h1 : m ≠ p) (h2 : m ≠ 0) : ad_rd p (m :: ps) = m :: ad_rd m ps := if_pos ⟨h1, h2⟩
theorem ad_rd_n {p m : Nat} (ps : List Nat) (h : m = p ∨ m = 0) : ad_rd p (m :: ps) = ad_rd m ps := if_neg (by omega)
theorem ad_mt_m {g : Bool} {l : Nat → Nat} {L k m : Nat} (hk : k < L) (bs : List Nat) : ad_mt g (ad_lb l k (L - k)) (m :: bs) = if l k = m then ad_mt g (ad_lb l (k + 1) (L - (k + 1))) bs else false := by
  rw [show L - k = (L - (k + 1)) + 1 by omega]
  rfl
theorem ad_mt_g {g : Bool} {l : Nat → Nat} {L k m : Nat} (hk : L ≤ k) (bs : List Nat) : ad_mt g (ad_lb l k (L - k)) (m :: bs) = g := by
  rw [show L - k = 0 by omega]
  rfl
/-- places that one place leads to have different marks -/
theorem ad_uq {l : Nat → Nat} {L s r q : Nat} (hl : ∀ j, j < L → 1 ≤ l j) (hr : r ≤ 2 * L) (hq : q ≤ 2 * L) (dr : ad_ld l s r = true) (dq : ad_ld l s q = true) (e : ad_mk l r = ad_mk l q) : r = q := by
  have dr := ad_ld_i.mp dr
  have dq := ad_ld_i.mp dq
  rcases Nat.mod_two_eq_zero_or_one s with h | h
  · obtain ⟨k, rfl⟩ : ∃ k, s = 2 * k := ⟨s / 2, by omega⟩
    have h0 : ad_mk l (2 * k) = 0 := ad_mk_e l k
    have h1 : ad_mk l (2 * k + 1) = l k := ad_mk_o l k
    rcases dr with rfl | rfl | ⟨_, _, _⟩
    · rcases dq with rfl | rfl | ⟨_, _, _⟩
      · rfl
      · have := hl k (by omega)
        omega
      · omega
    · rcases dq with rfl | rfl | ⟨_, _, _⟩
      · have := hl k (by omega)
        omega
      · rfl
      · omega
    · omega
  · obtain ⟨k, rfl⟩ : ∃ k, s = 2 * k + 1 := ⟨s / 2, by omega⟩
    have h0 : ad_mk l (2 * k + 1) = l k := ad_mk_o l k
    have h1 : ad_mk l (2 * k + 1 + 1) = 0 := ad_mk_e l (k + 1)
    have h2 : ad_mk l (2 * k + 1 + 2) = l (k + 1) := ad_mk_o l (k + 1)
    have g0 := hl k
    have g1 := hl (k + 1)
    rcases dr with rfl | rfl | ⟨rfl, _, nr⟩
    · rcases dq with rfl | rfl | ⟨rfl, _, nq⟩
      · rfl
      · omega
      · omega
    · rcases dq with rfl | rfl | ⟨rfl, _, nq⟩
      · omega
      · rfl
      · omega
    · rcases dq with rfl | rfl | ⟨rfl, _, nq⟩
      · omega
      · omega
      · rfl
/-- one frame of acceptance is one step to a place -/
theorem ad_nx {g : Bool} {l : Nat → Nat} {L s : Nat} (m : Nat) (hl : ∀ j, j < L → 1 ≤ l j) (hs : s ≤ 2 * L) (hg : g = false ∨ s + 1 < 2 * L) :
    (∃ r, r ≤ 2 * L ∧ ad_ld l s r = true ∧ ad_mk l r = m ∧ ∀ ps, ad_ac g l L s (m :: ps) = ad_ac g l L r ps) ∨ ((∀ r, r ≤ 2 * L → ad_ld l s r = true → ad_mk l r ≠ m) ∧ ∀ ps, ad_ac g l L s (m :: ps) = false) := by
  rcases Nat.mod_two_eq_zero_or_one s with h | h
  · obtain ⟨k, rfl⟩ : ∃ k, s = 2 * k := ⟨s / 2, by omega⟩
    have h0 : ad_mk l (2 * k) = 0 := ad_mk_e l k
    have h1 : ad_mk l (2 * k + 1) = l k := ad_mk_o l k
    by_cases m0 : m = 0
    · subst m0
      refine Or.inl ⟨2 * k, hs, ad_ld_i.mpr (Or.inl rfl), h0, fun ps => ?_⟩
      rw [ad_ace, ad_ace, ad_rd_n ps (Or.inr rfl)]
    · by_cases hk : k < L
      · by_cases em : l k = m
        · refine Or.inl ⟨2 * k + 1, by omega, ad_ld_i.mpr (Or.inr (Or.inl rfl)), by omega, fun ps => ?_⟩
          rw [ad_ace, ad_aco, ad_rd_y ps m0 m0, ad_mt_m hk, if_pos em, em]
        · refine Or.inr ⟨fun r hr dr => ?_, fun ps => ?_⟩
          · rcases ad_ld_i.mp dr with rfl | rfl | ⟨_, _, _⟩
            · omega
            · omega
            · omega
          · rw [ad_ace, ad_rd_y ps m0 m0, ad_mt_m hk, if_neg em]
      · refine Or.inr ⟨fun r hr dr => ?_, fun ps => ?_⟩
        · rcases ad_ld_i.mp dr with rfl | rfl | ⟨_, _, _⟩
          · omega
          · omega
          · omega
        · rw [ad_ace, ad_rd_y ps m0 m0, ad_mt_g (by omega)]
          rcases hg with hg | hg
          · exact hg
          · omega
  · obtain ⟨k, rfl⟩ : ∃ k, s = 2 * k + 1 := ⟨s / 2, by omega⟩
    have h0 : ad_mk l (2 * k + 1) = l k := ad_mk_o l k
    have h1 : ad_mk l (2 * k + 1 + 1) = 0 := ad_mk_e l (k + 1)
    have h2 : ad_mk l (2 * k + 1 + 2) = l (k + 1) := ad_mk_o l (k + 1)
    have g0 := hl k (by omega)
    by_cases em : m = l k
    · subst em
      refine Or.inl ⟨2 * k + 1, hs, ad_ld_i.mpr (Or.inl rfl), h0, fun ps => ?_⟩
      rw [ad_aco, ad_aco, ad_rd_n ps (Or.inl rfl)]
    · by_cases m0 : m = 0
      · subst m0
        refine Or.inl ⟨2 * k + 1 + 1, by omega, ad_ld_i.mpr (Or.inr (Or.inl rfl)), h1, fun ps => ?_⟩
        rw [ad_aco, show 2 * k + 1 + 1 = 2 * (k + 1) by omega, ad_ace, ad_rd_n ps (Or.inr rfl)]
      · by_cases hk : k + 1 < L
        · by_cases e1 : l (k + 1) = m
          · refine Or.inl ⟨2 * k + 1 + 2, by omega, ad_ld_i.mpr (Or.inr (Or.inr ⟨rfl, by omega, by omega⟩)), by omega, fun ps => ?_⟩
            rw [ad_aco, show 2 * k + 1 + 2 = 2 * (k + 1) + 1 by omega, ad_aco, ad_rd_y ps em m0, ad_mt_m hk, if_pos e1, e1]
          · refine Or.inr ⟨fun r hr dr => ?_, fun ps => ?_⟩
            · rcases ad_ld_i.mp dr with rfl | rfl | ⟨rfl, _, _⟩
              · omega
              · omega
              · omega
            · rw [ad_aco, ad_rd_y ps em m0, ad_mt_m hk, if_neg e1]
        · refine Or.inr ⟨fun r hr dr => ?_, fun ps => ?_⟩
          · rcases ad_ld_i.mp dr with rfl | rfl | ⟨rfl, _, _⟩
            · omega
            · omega
            · omega
          · rw [ad_aco, ad_rd_y ps em m0, ad_mt_g (by omega)]
            rcases hg with hg | hg
            · exact hg
            · omega
/-- the weight of the accepted paths of n frames from frame t on, from place s -/
def ad_O (g : Bool) (w l : Nat → Nat) (L t n s : Nat) : Nat := ad_sm (fun c => if ad_ac g l L s (ad_pth n c) = true then ad_wt w t (ad_pth n c) else 0) (4 ^ n)
theorem ad_O_0 (g : Bool) (w l : Nat → Nat) (L t s : Nat) : ad_O g w l L t 0 s = if 2 * L ≤ s + 1 then 1 else 0 := by
  show 0 + (if ad_ac g l L s [] = true then 1 else 0) = _
  rw [ad_ac_n, Nat.zero_add]
  by_cases h : 2 * L ≤ s + 1
  · rw [if_pos h, if_pos (decide_eq_true h)]
  · rw [if_neg h, if_neg (by rw [decide_eq_false h]; exact Bool.false_ne_true)]
theorem ad_Om {g : Bool} {w l : Nat → Nat} {L t n s : Nat} (m : Nat) (hl : ∀ j, j < L → 1 ≤ l j) (hs : s ≤ 2 * L) (hg : g = false ∨ s + 1 < 2 * L) :
    ad_sm (fun c => if ad_ac g l L s (m :: ad_pth n c) = true then ad_wt w t (m :: ad_pth n c) else 0) (4 ^ n) = ad_sm (fun r => if ad_ld l s r = true ∧ ad_mk l r = m then w (t * 4 + m) * ad_O g w l L (t + 1) n r else 0) (2 * L + 1) := by
  rcases ad_nx m hl hs hg with ⟨r, hr, dr, er, H⟩ | ⟨N, H⟩
  · rw [ad_sm_1 (n := 2 * L + 1) (k := r) (by omega) (fun i hi ne => if_neg (fun z => ne (ad_uq hl (by omega) hr z.1 dr (z.2.trans er.symm)))), if_pos ⟨dr, er⟩, ad_O, ← ad_sm_mul]
    refine ad_sm_c (fun c _ => ?_)
    rw [H]
    show (if ad_ac g l L r (ad_pth n c) = true then w (t * 4 + m) * ad_wt w (t + 1) (ad_pth n c) else 0) = w (t * 4 + m) * (if ad_ac g l L r (ad_pth n c) = true then ad_wt w (t + 1) (ad_pth n c) else 0)
    split
    · rfl
    · rfl
  · rw [ad_sm_0 (fun c _ => if_neg (by rw [H]; exact Bool.false_ne_true)), ad_sm_0 (fun i hi => if_neg (fun z => N i (by omega) z.1 z.2))]
theorem ad_O_s {g : Bool} {w l : Nat → Nat} {L t n s : Nat} (hl : ∀ j, j < L → 1 ≤ l j) (h3 : ∀ j, l j ≤ 3) (hs : s ≤ 2 * L) (hg : g = false ∨ s + 1 < 2 * L) :
    ad_O g w l L t (n + 1) s = ad_sm (fun r => if ad_ld l s r = true then w (t * 4 + ad_mk l r) * ad_O g w l L (t + 1) n r else 0) (2 * L + 1) := by
  rw [ad_O, ad_sp_s n (fun ps => if ad_ac g l L s ps = true then ad_wt w t ps else 0), ad_sm_c (fun m _ => ad_Om (w := w) (t := t) (n := n) m hl hs hg), ad_sm_swap]
  refine ad_sm_c (fun r _ => ?_)
  have := ad_mk_3 h3 r
  rw [ad_sm_1 (k := ad_mk l r) (by omega) (fun i hi ne => if_neg (fun z => ne z.2.symm))]
  by_cases h : ad_ld l s r = true
  · rw [if_pos h, if_pos ⟨h, rfl⟩]
  · rw [if_neg h, if_neg (fun z => h z.1)]
end
section
theorem ad_sm_t {f : Nat → Nat} {m n : Nat} (h : m ≤ n) (z : ∀ i, m ≤ i → i < n → f i = 0) : ad_sm f n = ad_sm f m := by
  obtain ⟨d, rfl⟩ : ∃ d, n = m + d := ⟨n - m, by omega⟩
  rw [ad_sm_app, ad_sm_0 (n := d) (fun i hi => z (m + i) (by omega) (by omega)), Nat.add_zero]
/-! forward rows: row 0 is before the first frame, at place 0 -/
def ad_V (w l : Nat → Nat) (N : Nat) : Nat → Nat → Nat
  | 0 => fun s => if s = 0 then 1 else 0
  | t + 1 => fun s => ad_sm (fun r => if ad_ld l r s = true then ad_V w l N t r else 0) N * w (t * 4 + ad_mk l s)
theorem ad_V_s (w l : Nat → Nat) (N t s : Nat) : ad_V w l N (t + 1) s = ad_sm (fun r => if ad_ld l r s = true then ad_V w l N t r else 0) N * w (t * 4 + ad_mk l s) := rfl
/-- the adjoint of one frame -/
theorem ad_adj (v o x : Nat → Nat) (D : Nat → Nat → Bool) (M N : Nat) :
    ad_sm (fun s => ad_sm (fun r => if D r s = true then v r else 0) M * x s * o s) N = ad_sm (fun r => v r * ad_sm (fun s => if D r s = true then x s * o s else 0) N) M := by
  have e1 : ad_sm (fun s => ad_sm (fun r => if D r s = true then v r else 0) M * x s * o s) N = ad_sm (fun s => ad_sm (fun r => if D r s = true then v r * (x s * o s) else 0) M) N := by
    refine ad_sm_c (fun s _ => ?_)
    rw [Nat.mul_assoc, ← ad_sm_mulr]
    refine ad_sm_c (fun r _ => ?_)
    split
    · rfl
    · exact Nat.zero_mul _
  rw [e1, ad_sm_swap]
  refine ad_sm_c (fun r _ => ?_)
  rw [← ad_sm_mul]
  refine ad_sm_c (fun s _ => ?_)
  split
  · rfl
  · rfl
theorem ad_fb1 {w l : Nat → Nat} {L t n : Nat} (hl : ∀ j, j < L → 1 ≤ l j) (h3 : ∀ j, l j ≤ 3) :
    ad_sm (fun s => ad_V w l (2 * L + 1) (t + 1) s * ad_O false w l L (t + 1) n s) (2 * L + 1) = ad_sm (fun s => ad_V w l (2 * L + 1) t s * ad_O false w l L t (n + 1) s) (2 * L + 1) := by
  refine (ad_adj (ad_V w l (2 * L + 1) t) (ad_O false w l L (t + 1) n) (fun s => w (t * 4 + ad_mk l s)) (ad_ld l) (2 * L + 1) (2 * L + 1)).trans ?_
  refine ad_sm_c (fun r hr => ?_)
  rw [ad_O_s hl h3 (by omega) (Or.inl rfl)]
theorem ad_fb {w l : Nat → Nat} {L : Nat} (hl : ∀ j, j < L → 1 ≤ l j) (h3 : ∀ j, l j ≤ 3) : ∀ t n, ad_sm (fun s => ad_V w l (2 * L + 1) t s * ad_O false w l L t n s) (2 * L + 1) = ad_O false w l L 0 (t + n) 0
  | 0, n => by
    rw [ad_sm_1 (k := 0) (by omega) (fun i _ ne => by show (if i = 0 then 1 else 0) * _ = 0; rw [if_neg ne, Nat.zero_mul])]
    show 1 * _ = _
    rw [Nat.one_mul, Nat.zero_add]
  | t + 1, n => by
    rw [ad_fb1 hl h3, ad_fb hl h3 t (n + 1)]
    exact congrArg (fun k => ad_O false w l L 0 k 0) (by omega)
/-- the sum over the last frame's places -/
theorem ad_tot {w l : Nat → Nat} {L : Nat} (hl : ∀ j, j < L → 1 ≤ l j) (h3 : ∀ j, l j ≤ 3) (T : Nat) : ad_sm (fun s => if 2 * L ≤ s + 1 then ad_V w l (2 * L + 1) T s else 0) (2 * L + 1) = ad_O false w l L 0 T 0 := by
  rw [← Nat.add_zero T, ← ad_fb hl h3 T 0]
  refine ad_sm_c (fun s _ => ?_)
  rw [ad_O_0, Nat.add_zero]
  split
  · exact (Nat.mul_one _).symm
  · rfl
/-! weights zeroed at one frame but for one mark -/
def ad_z (w : Nat → Nat) (t m : Nat) : Nat → Nat := fun j => if j / 4 = t then (if j % 4 = m then w j else 0) else w j
theorem ad_z_o {w : Nat → Nat} {t m u q : Nat} (h : u ≠ t) (hq : q ≤ 3) : ad_z w t m (u * 4 + q) = w (u * 4 + q) := if_neg (by omega)
theorem ad_z_i {w : Nat → Nat} {t m q : Nat} (hq : q ≤ 3) : ad_z w t m (t * 4 + q) = if q = m then w (t * 4 + q) else 0 := by
  unfold ad_z
  rw [if_pos (by omega), show (t * 4 + q) % 4 = q by omega]
theorem ad_wt_o {w : Nat → Nat} {t m : Nat} : ∀ (ps : List Nat) (u : Nat), t < u → (∀ q, q ∈ ps → q ≤ 3) → ad_wt (ad_z w t m) u ps = ad_wt w u ps
  | [], _, _, _ => rfl
  | q :: ps, u, h, h3 => by
    show ad_z w t m (u * 4 + q) * _ = w (u * 4 + q) * _
    rw [ad_z_o (by omega) (h3 q List.mem_cons_self), ad_wt_o ps (u + 1) (by omega) (fun a ha => h3 a (List.mem_cons_of_mem _ ha))]
/-- the mark at frame t of a path that begins at frame u -/
def ad_at : List Nat → Nat → Nat
  | [], _ => 0
  | m :: _, 0 => m
  | _ :: ps, i + 1 => ad_at ps i
theorem ad_wt_z {w : Nat → Nat} {m : Nat} : ∀ (ps : List Nat) (u i : Nat), i < ps.length → (∀ q, q ∈ ps → q ≤ 3) → ad_wt (ad_z w (u + i) m) u ps = if ad_at ps i = m then ad_wt w u ps else 0
  | [], _, _, h, _ => absurd h (Nat.not_lt_zero _)
  | q :: ps, u, 0, _, h3 => by
    show ad_z w u m (u * 4 + q) * ad_wt (ad_z w u m) (u + 1) ps = if q = m then w (u * 4 + q) * ad_wt w (u + 1) ps else 0
    rw [ad_z_i (h3 q List.mem_cons_self), ad_wt_o ps (u + 1) (by omega) (fun a ha => h3 a (List.mem_cons_of_mem _ ha))]
    split
    · rfl
    · exact Nat.zero_mul _
  | q :: ps, u, i + 1, h, h3 => by
    show ad_z w (u + (i + 1)) m (u * 4 + q) * ad_wt (ad_z w (u + (i + 1)) m) (u + 1) ps = if ad_at ps i = m then w (u * 4 + q) * ad_wt w (u + 1) ps else 0
    rw [ad_z_o (by omega) (h3 q List.mem_cons_self), show u + (i + 1) = u + 1 + i by omega, ad_wt_z ps (u + 1) i (Nat.lt_of_succ_lt_succ h) (fun a ha => h3 a (List.mem_cons_of_mem _ ha))]
    split
    · rfl
    · rfl
theorem ad_V_o {w l : Nat → Nat} {N t m : Nat} (h3 : ∀ j, l j ≤ 3) : ∀ u, u ≤ t → ∀ s, ad_V (ad_z w t m) l N u s = ad_V w l N u s
  | 0, _, _ => rfl
  | u + 1, h, s => by
    rw [ad_V_s, ad_V_s, ad_z_o (by omega) (ad_mk_3 h3 s)]
    refine congrArg (fun k => k * _) (ad_sm_c (fun r _ => ?_))
    rw [ad_V_o h3 u (by omega) r]
theorem ad_O_o {w l : Nat → Nat} {L t m u n s : Nat} (h : t < u) : ad_O false (ad_z w t m) l L u n s = ad_O false w l L u n s := by
  refine ad_sm_c (fun c _ => ?_)
  rw [ad_wt_o (ad_pth n c) u h (ad_pth_3 n c)]
/-- through: forward times onward at the places with the mark -/
theorem ad_thr {w l : Nat → Nat} {L t m n : Nat} (hl : ∀ j, j < L → 1 ≤ l j) (h3 : ∀ j, l j ≤ 3) :
    ad_sm (fun s => if ad_mk l s = m then ad_V w l (2 * L + 1) (t + 1) s * ad_O false w l L (t + 1) n s else 0) (2 * L + 1)
      = ad_sm (fun c => if ad_at (ad_pth (t + 1 + n) c) t = m ∧ ad_ac false l L 0 (ad_pth (t + 1 + n) c) = true then ad_wt w 0 (ad_pth (t + 1 + n) c) else 0) (4 ^ (t + 1 + n)) := by
  have e := ad_fb (w := ad_z w t m) hl h3 (t + 1) n
  have e1 : ad_sm (fun s => ad_V (ad_z w t m) l (2 * L + 1) (t + 1) s * ad_O false (ad_z w t m) l L (t + 1) n s) (2 * L + 1) = ad_sm (fun s => if ad_mk l s = m then ad_V w l (2 * L + 1) (t + 1) s * ad_O false w l L (t + 1) n s else 0) (2 * L + 1) := by
    refine ad_sm_c (fun s _ => ?_)
    rw [ad_O_o (Nat.lt_succ_self t), ad_V_s, ad_V_s, ad_z_i (ad_mk_3 h3 s), ad_sm_c (fun r _ => by rw [ad_V_o h3 t (Nat.le_refl t) r])]
    split
    · rfl
    · rw [Nat.mul_zero, Nat.zero_mul]
  rw [← e1, e]
  refine ad_sm_c (fun c _ => ?_)
  have e2 := ad_wt_z (w := w) (m := m) (ad_pth (t + 1 + n) c) 0 t (by rw [ad_pth_l]; omega) (ad_pth_3 _ c)
  rw [Nat.zero_add] at e2
  rw [e2]
  by_cases a : ad_at (ad_pth (t + 1 + n) c) t = m
  · rw [if_pos a]
    by_cases b : ad_ac false l L 0 (ad_pth (t + 1 + n) c) = true
    · rw [if_pos b, if_pos ⟨a, b⟩]
    · rw [if_neg b, if_neg (fun z => b z.2)]
  · rw [if_neg a, if_neg (fun z : _ ∧ _ => a z.1)]
    split
    · rfl
    · rfl
/-! all paths -/
def ad_fs (w : Nat → Nat) (t : Nat) : Nat := ad_sm (fun m => w (t * 4 + m)) 4
def ad_E (w : Nat → Nat) : Nat → Nat → Nat
  | _, 0 => 1
  | t, n + 1 => ad_fs w t * ad_E w (t + 1) n
theorem ad_ev (w : Nat → Nat) : ∀ n t, ad_sm (fun c => ad_wt w t (ad_pth n c)) (4 ^ n) = ad_E w t n
  | 0, _ => rfl
  | n + 1, t => by
    rw [ad_sp_s n (fun ps => ad_wt w t ps)]
    show ad_sm (fun m => ad_sm (fun c => w (t * 4 + m) * ad_wt w (t + 1) (ad_pth n c)) (4 ^ n)) 4 = ad_sm (fun m => w (t * 4 + m)) 4 * ad_E w (t + 1) n
    rw [← ad_sm_mulr]
    refine ad_sm_c (fun m _ => ?_)
    rw [ad_sm_mul, ad_ev w n (t + 1)]
theorem ad_Ot {w l : Nat → Nat} {L t n s : Nat} (h : 2 * L ≤ s + 1) : ad_O true w l L t n s = ad_E w t n := by
  rw [← ad_ev]
  exact ad_sm_c (fun c _ => if_pos (ad_ac_t h _))
/-! the paths that read at least the label: by the frame at which its last mark (place q = 2 L - 1) is read -/
def ad_F (w l : Nat → Nat) (L t : Nat) : Nat := ad_sm (fun r => if ad_ld l r (2 * L - 1) = true then ad_V w l (2 * L + 1) t r else 0) (2 * L - 1)
theorem ad_pf1 {w l : Nat → Nat} {L t n : Nat} (hL : 0 < L) (hl : ∀ j, j < L → 1 ≤ l j) (h3 : ∀ j, l j ≤ 3) :
    ad_sm (fun s => ad_V w l (2 * L + 1) t s * ad_O true w l L t (n + 1) s) (2 * L - 1) = ad_sm (fun s => ad_V w l (2 * L + 1) (t + 1) s * ad_O true w l L (t + 1) n s) (2 * L - 1) + ad_F w l L t * w (t * 4 + ad_mk l (2 * L - 1)) * ad_E w (t + 1) n := by
  have e1 : ad_sm (fun s => ad_V w l (2 * L + 1) t s * ad_O true w l L t (n + 1) s) (2 * L - 1) = ad_sm (fun r => ad_V w l (2 * L + 1) t r * ad_sm (fun s => if ad_ld l r s = true then w (t * 4 + ad_mk l s) * ad_O true w l L (t + 1) n s else 0) (2 * L - 1 + 1)) (2 * L - 1) := by
    refine ad_sm_c (fun s hs => ?_)
    rw [ad_O_s hl h3 (by omega) (Or.inr (by omega)), ad_sm_t (m := 2 * L - 1 + 1) (n := 2 * L + 1) (by omega) (fun i h1 h2 => if_neg (fun z => by have := ad_ld_i.mp z; omega))]
  rw [e1, ← ad_adj (ad_V w l (2 * L + 1) t) (ad_O true w l L (t + 1) n) (fun s => w (t * 4 + ad_mk l s)) (ad_ld l) (2 * L - 1) (2 * L - 1 + 1)]
  show ad_sm _ (2 * L - 1) + ad_F w l L t * w (t * 4 + ad_mk l (2 * L - 1)) * ad_O true w l L (t + 1) n (2 * L - 1) = _
  rw [ad_Ot (s := 2 * L - 1) (by omega)]
  refine congrArg (fun k => k + _) (ad_sm_c (fun s hs => ?_))
  rw [ad_V_s]
  rw [ad_sm_t (m := 2 * L - 1) (n := 2 * L + 1) (by omega) (fun i h1 h2 => if_neg (fun z => by have := ad_ld_r z; omega))]
theorem ad_pf2 {w l : Nat → Nat} {L : Nat} (hL : 0 < L) (hl : ∀ j, j < L → 1 ≤ l j) (h3 : ∀ j, l j ≤ 3) (T : Nat) : ∀ n t, t + n = T →
    ad_sm (fun s => ad_V w l (2 * L + 1) t s * ad_O true w l L t n s) (2 * L - 1) + ad_sm (fun u => ad_F w l L u * w (u * 4 + ad_mk l (2 * L - 1)) * ad_E w (u + 1) (T - 1 - u)) t = ad_sm (fun u => ad_F w l L u * w (u * 4 + ad_mk l (2 * L - 1)) * ad_E w (u + 1) (T - 1 - u)) T
  | 0, t, h => by
    rw [ad_sm_0 (n := 2 * L - 1) (fun i hi => by rw [ad_O_0, if_neg (by omega), Nat.mul_zero]), Nat.zero_add, show t = T by omega]
  | n + 1, t, h => by
    have ih := ad_pf2 (w := w) hL hl h3 T n (t + 1) (by omega)
    have e : ad_sm (fun u => ad_F w l L u * w (u * 4 + ad_mk l (2 * L - 1)) * ad_E w (u + 1) (T - 1 - u)) (t + 1) = ad_sm (fun u => ad_F w l L u * w (u * 4 + ad_mk l (2 * L - 1)) * ad_E w (u + 1) (T - 1 - u)) t + ad_F w l L t * w (t * 4 + ad_mk l (2 * L - 1)) * ad_E w (t + 1) (T - 1 - t) := rfl
    rw [ad_pf1 hL hl h3, ← ih, e, show T - 1 - t = n by omega]
    omega
theorem ad_pf {w l : Nat → Nat} {L : Nat} (hL : 0 < L) (hl : ∀ j, j < L → 1 ≤ l j) (h3 : ∀ j, l j ≤ 3) (T : Nat) :
    ad_sm (fun u => ad_F w l L u * w (u * 4 + ad_mk l (2 * L - 1)) * ad_E w (u + 1) (T - 1 - u)) T = ad_O true w l L 0 T 0 := by
  rw [← ad_pf2 hL hl h3 T T 0 (by omega), ad_sm_1 (n := 2 * L - 1) (k := 0) (by omega) (fun i _ ne => by show (if i = 0 then 1 else 0) * _ = 0; rw [if_neg ne, Nat.zero_mul])]
  show 1 * ad_O true w l L 0 T 0 + 0 = _
  rw [Nat.one_mul, Nat.add_zero]
end
section
/-! the greatest weight from a place on -/
def ad_mx (a : Option Nat) (v : Nat) : Option Nat := match a with
  | none => some v
  | some u => if v ≤ u then some u else some v
def ad_mu (a x : Option Nat) (c : Nat) : Option Nat := match x with
  | none => a
  | some v => ad_mx a (c * v)
def ad_M3 (w l : Nat → Nat) (L t s : Nat) (Z : Nat → Option Nat) (a : Option Nat) (r : Nat) : Option Nat := if r ≤ 2 * L ∧ ad_ld l s r = true then ad_mu a (Z r) (w (t * 4 + ad_mk l r)) else a
def ad_M (w l : Nat → Nat) (L : Nat) : Nat → Nat → Nat → Option Nat
  | 0 => fun _ s => if 2 * L ≤ s + 1 then some 1 else none
  | n + 1 => fun t s => ad_M3 w l L t s (ad_M w l L n (t + 1)) (ad_M3 w l L t s (ad_M w l L n (t + 1)) (ad_M3 w l L t s (ad_M w l L n (t + 1)) none s) (s + 1)) (s + 2)
theorem ad_M_0 (w l : Nat → Nat) (L t s : Nat) : ad_M w l L 0 t s = if 2 * L ≤ s + 1 then some 1 else none := rfl
theorem ad_M_s (w l : Nat → Nat) (L n t s : Nat) : ad_M w l L (n + 1) t s = ad_M3 w l L t s (ad_M w l L n (t + 1)) (ad_M3 w l L t s (ad_M w l L n (t + 1)) (ad_M3 w l L t s (ad_M w l L n (t + 1)) none s) (s + 1)) (s + 2) := rfl
def ad_MX (S : Nat → Prop) (x : Option Nat) : Prop := match x with
  | none => ∀ v, ¬ S v
  | some u => S u ∧ ∀ v, S v → v ≤ u
theorem ad_MX_i {S Q : Nat → Prop} {x : Option Nat} (h : ∀ v, S v ↔ Q v) (m : ad_MX S x) : ad_MX Q x := by
  have e : S = Q := funext fun v => propext (h v)
  exact e ▸ m
theorem ad_MX_q {S : Nat → Prop} {x y : Option Nat} (a : ad_MX S x) (b : ad_MX S y) : x = y := by
  cases x with
  | none =>
    cases y with
    | none => rfl
    | some v => exact absurd b.1 (a v)
  | some u =>
    cases y with
    | none => exact absurd a.1 (b u)
    | some v => exact congrArg some (Nat.le_antisymm (b.2 u a.1) (a.2 v b.1))
theorem ad_MX_u {S Q : Nat → Prop} {a x : Option Nat} {c : Nat} (ha : ad_MX S a) (hx : ad_MX Q x) : ad_MX (fun v => S v ∨ ∃ q, Q q ∧ v = c * q) (ad_mu a x c) := by
  cases x with
  | none => exact ad_MX_i (fun v => ⟨Or.inl, fun z => z.elim id (fun ⟨q, hq, _⟩ => absurd hq (hx q))⟩) ha
  | some u =>
    have h1 : Q u := hx.1
    have h2 : ∀ q, Q q → q ≤ u := hx.2
    cases a with
    | none =>
      refine And.intro (Or.inr ⟨u, h1, rfl⟩) ?_
      intro v hv
      rcases hv with h | ⟨q, hq, e⟩
      · exact absurd h (ha v)
      · rw [e]
        exact Nat.mul_le_mul_left c (h2 q hq)
    | some b =>
      have a1 : S b := ha.1
      have a2 : ∀ q, S q → q ≤ b := ha.2
      show ad_MX _ (if c * u ≤ b then some b else some (c * u))
      have k : ∀ q, Q q → c * q ≤ c * u := fun q hq => Nat.mul_le_mul_left c (h2 q hq)
      by_cases le : c * u ≤ b
      · rw [if_pos le]
        refine And.intro (Or.inl a1) ?_
        intro v hv
        rcases hv with h | ⟨q, hq, e⟩
        · exact a2 v h
        · rw [e]
          exact Nat.le_trans (k q hq) le
      · rw [if_neg le]
        refine And.intro (Or.inr ⟨u, h1, rfl⟩) ?_
        intro v hv
        rcases hv with h | ⟨q, hq, e⟩
        · have := a2 v h
          omega
        · rw [e]
          exact k q hq
theorem ad_MX_3 {w l : Nat → Nat} {L t s : Nat} {Z : Nat → Option Nat} {S : Nat → Prop} {Q : Nat → Nat → Prop} {a : Option Nat} {r : Nat} (ha : ad_MX S a) (hx : r ≤ 2 * L → ad_MX (Q r) (Z r)) : ad_MX (fun v => S v ∨ ((r ≤ 2 * L ∧ ad_ld l s r = true) ∧ ∃ q, Q r q ∧ v = w (t * 4 + ad_mk l r) * q)) (ad_M3 w l L t s Z a r) := by
  unfold ad_M3
  by_cases h : r ≤ 2 * L ∧ ad_ld l s r = true
  · rw [if_pos h]
    exact ad_MX_i (fun v => ⟨fun z => z.elim Or.inl (fun z => Or.inr ⟨h, z⟩), fun z => z.elim Or.inl (fun z => Or.inr z.2)⟩) (ad_MX_u ha (hx h.1))
  · rw [if_neg h]
    exact ad_MX_i (fun v => ⟨Or.inl, fun z => z.elim id (fun z => absurd z.1 h)⟩) ha
def ad_S (w l : Nat → Nat) (L n t s v : Nat) : Prop := ∃ ps : List Nat, ps.length = n ∧ (∀ m, m ∈ ps → m ≤ 3) ∧ ad_ac false l L s ps = true ∧ ad_wt w t ps = v
theorem ad_ac_s {l : Nat → Nat} {L s r : Nat} (hl : ∀ j, j < L → 1 ≤ l j) (hs : s ≤ 2 * L) (hr : r ≤ 2 * L) (d : ad_ld l s r = true) (ps : List Nat) : ad_ac false l L s (ad_mk l r :: ps) = ad_ac false l L r ps := by
  rcases ad_nx (g := false) (ad_mk l r) hl hs (Or.inl rfl) with ⟨q, hq, dq, e, H⟩ | ⟨N, _⟩
  · rw [H, ad_uq hl hq hr dq d e]
  · exact absurd rfl (N r hr d)
theorem ad_ac_x {l : Nat → Nat} {L s m : Nat} {ps : List Nat} (hl : ∀ j, j < L → 1 ≤ l j) (hs : s ≤ 2 * L) (h : ad_ac false l L s (m :: ps) = true) : ∃ r, r ≤ 2 * L ∧ ad_ld l s r = true ∧ ad_mk l r = m ∧ ad_ac false l L r ps = true := by
  rcases ad_nx (g := false) m hl hs (Or.inl rfl) with ⟨q, hq, dq, e, H⟩ | ⟨_, H⟩
  · exact ⟨q, hq, dq, e, by rw [← H]; exact h⟩
  · rw [H] at h
    exact absurd h Bool.false_ne_true
theorem ad_S_s {w l : Nat → Nat} {L n t s v : Nat} (hl : ∀ j, j < L → 1 ≤ l j) (h3 : ∀ j, l j ≤ 3) (hs : s ≤ 2 * L) : ad_S w l L (n + 1) t s v ↔ ∃ r, (r ≤ 2 * L ∧ ad_ld l s r = true) ∧ ∃ q, ad_S w l L n (t + 1) r q ∧ v = w (t * 4 + ad_mk l r) * q := by
  constructor
  · rintro ⟨ps, e, p3, a, rfl⟩
    match ps, e, p3, a with
    | m :: ps, e, p3, a =>
      obtain ⟨r, hr, d, em, b⟩ := ad_ac_x hl hs a
      refine ⟨r, ⟨hr, d⟩, ad_wt w (t + 1) ps, ⟨ps, Nat.succ.inj e, fun q hq => p3 q (List.mem_cons_of_mem _ hq), b, rfl⟩, ?_⟩
      rw [em]
      rfl
  · rintro ⟨r, ⟨hr, d⟩, q, ⟨ps, e, p3, b, rfl⟩, rfl⟩
    refine ⟨ad_mk l r :: ps, congrArg (· + 1) e, fun q hq => ?_, ?_, rfl⟩
    · rcases List.mem_cons.mp hq with h | h
      · rw [h]
        exact ad_mk_3 h3 r
      · exact p3 q h
    · rw [ad_ac_s hl hs hr d]
      exact b
theorem ad_M_l {w l : Nat → Nat} {L : Nat} (hl : ∀ j, j < L → 1 ≤ l j) (h3 : ∀ j, l j ≤ 3) : ∀ n t s, s ≤ 2 * L → ad_MX (ad_S w l L n t s) (ad_M w l L n t s)
  | 0, t, s, _ => by
    rw [ad_M_0]
    by_cases h : 2 * L ≤ s + 1
    · rw [if_pos h]
      refine And.intro ⟨[], rfl, fun m hm => (nomatch hm), ?_, rfl⟩ ?_
      · rw [ad_ac_n]
        exact decide_eq_true h
      · rintro v ⟨ps, e, _, _, rfl⟩
        rw [List.eq_nil_of_length_eq_zero e]
        exact Nat.le_refl 1
    · rw [if_neg h]
      rintro v ⟨ps, e, _, a, rfl⟩
      rw [List.eq_nil_of_length_eq_zero e, ad_ac_n] at a
      exact h (of_decide_eq_true a)
  | n + 1, t, s, hs => by
    rw [ad_M_s]
    have h0 : ad_MX (fun _ => False) none := fun _ z => z
    have H := fun r hr => ad_M_l (w := w) hl h3 n (t + 1) r hr
    have h1 := ad_MX_3 (w := w) (l := l) (t := t) (s := s) (Q := ad_S w l L n (t + 1)) h0 (H s)
    have h2 := ad_MX_3 (w := w) (l := l) (t := t) (s := s) (Q := ad_S w l L n (t + 1)) h1 (H (s + 1))
    have h4 := ad_MX_3 (w := w) (l := l) (t := t) (s := s) (Q := ad_S w l L n (t + 1)) h2 (H (s + 2))
    refine ad_MX_i (fun v => ?_) h4
    rw [ad_S_s hl h3 hs]
    constructor
    · rintro (((z | z) | z) | z)
      · exact z.elim
      · exact ⟨_, z⟩
      · exact ⟨_, z⟩
      · exact ⟨_, z⟩
    · rintro ⟨r, hr, z⟩
      rcases ad_ld_i.mp hr.2 with rfl | rfl | ⟨rfl, _, _⟩
      · exact Or.inl (Or.inl (Or.inr ⟨hr, z⟩))
      · exact Or.inl (Or.inr ⟨hr, z⟩)
      · exact Or.inr ⟨hr, z⟩
theorem ad_wt_8 {w : Nat → Nat} (h8 : ∀ j, w j ≤ 8) : ∀ (ps : List Nat) (t : Nat), ad_wt w t ps ≤ 8 ^ ps.length
  | [], _ => Nat.le_refl 1
  | m :: ps, t => by
    show w (t * 4 + m) * ad_wt w (t + 1) ps ≤ 8 ^ (ps.length + 1)
    rw [Nat.pow_succ, Nat.mul_comm (8 ^ _)]
    exact Nat.mul_le_mul (h8 _) (ad_wt_8 h8 ps (t + 1))
theorem ad_M_8 {w l : Nat → Nat} {L n t s v : Nat} (hl : ∀ j, j < L → 1 ≤ l j) (h3 : ∀ j, l j ≤ 3) (h8 : ∀ j, w j ≤ 8) (hs : s ≤ 2 * L) (e : ad_M w l L n t s = some v) : v ≤ 8 ^ n := by
  have h := ad_M_l (w := w) hl h3 n t s hs
  rw [e] at h
  obtain ⟨ps, el, _, _, ew⟩ := h.1
  rw [← ew, ← el]
  exact ad_wt_8 h8 ps t
/-! the order of paths -/
def ad_lx : List Nat → List Nat → Prop
  | a :: as, b :: bs => a < b ∨ (a = b ∧ ad_lx as bs)
  | _, _ => True
theorem ad_lx_p : ∀ n c d, c ≤ d → d < 4 ^ n → ad_lx (ad_pth n c) (ad_pth n d)
  | 0, _, _, _, _ => True.intro
  | n + 1, c, d, h, hd => by
    have hp : 0 < 4 ^ n := Nat.pow_pos (by decide)
    rw [Nat.pow_succ] at hd
    have h1 : d / 4 ^ n < 4 := Nat.div_lt_of_lt_mul hd
    have h2 : c / 4 ^ n ≤ d / 4 ^ n := Nat.div_le_div_right h
    show c / 4 ^ n % 4 < d / 4 ^ n % 4 ∨ (c / 4 ^ n % 4 = d / 4 ^ n % 4 ∧ ad_lx (ad_pth n c) (ad_pth n d))
    rw [Nat.mod_eq_of_lt h1, Nat.mod_eq_of_lt (show c / 4 ^ n < 4 by omega)]
    by_cases e : c / 4 ^ n = d / 4 ^ n
    · refine Or.inr ⟨e, ?_⟩
      rw [ad_pth_c n c (c % 4 ^ n) (Nat.mod_mod _ _).symm, ad_pth_c n d (d % 4 ^ n) (Nat.mod_mod _ _).symm]
      refine ad_lx_p n _ _ ?_ (Nat.mod_lt _ hp)
      have a := Nat.div_add_mod c (4 ^ n)
      have b := Nat.div_add_mod d (4 ^ n)
      rw [e] at a
      omega
    · exact Or.inl (by omega)
/-- the state of the walk along the first best path: place s before frame u, weight so up to there, qs to come -/
def ad_iv (w l : Nat → Nat) (L G n u s so : Nat) (qs : List Nat) : Prop := qs.length = n ∧ (∀ m, m ∈ qs → m ≤ 3) ∧ ad_ac false l L s qs = true ∧ so * ad_wt w u qs = G ∧ ∀ ps : List Nat, ps.length = n → (∀ m, m ∈ ps → m ≤ 3) → ad_ac false l L s ps = true → so * ad_wt w u ps ≤ G ∧ (so * ad_wt w u ps = G → ad_lx qs ps)
theorem ad_iv_s {w l : Nat → Nat} {L G n u s so m : Nat} {qs : List Nat} (hl : ∀ j, j < L → 1 ≤ l j) (h3 : ∀ j, l j ≤ 3) (hs : s ≤ 2 * L) (I : ad_iv w l L G (n + 1) u s so (m :: qs)) :
    ∃ r, r ≤ 2 * L ∧ ad_ld l s r = true ∧ ad_mk l r = m ∧ ad_iv w l L G n (u + 1) r (so * w (u * 4 + m)) qs ∧ (∃ v, ad_M w l L n (u + 1) r = some v ∧ so * w (u * 4 + m) * v = G) ∧ ∀ q v, q ≤ 2 * L → ad_ld l s q = true → ad_M w l L n (u + 1) q = some v → so * w (u * 4 + ad_mk l q) * v = G → m ≤ ad_mk l q ∧ (ad_mk l q = m → q = r) := by
  obtain ⟨e, p3, a, eG, H⟩ := I
  obtain ⟨r, hr, d, em, b⟩ := ad_ac_x hl hs a
  have hm : m ≤ 3 := p3 m List.mem_cons_self
  have q3 : ∀ q, q ∈ qs → q ≤ 3 := fun q hq => p3 q (List.mem_cons_of_mem _ hq)
  have eG2 : so * w (u * 4 + m) * ad_wt w (u + 1) qs = G := by
    rw [← eG, Nat.mul_assoc]
    rfl
  have K : ∀ ps : List Nat, ps.length = n → (∀ q, q ∈ ps → q ≤ 3) → ∀ q, q ≤ 2 * L → ad_ld l s q = true → ad_ac false l L q ps = true → so * w (u * 4 + ad_mk l q) * ad_wt w (u + 1) ps ≤ G ∧ (so * w (u * 4 + ad_mk l q) * ad_wt w (u + 1) ps = G → ad_lx (m :: qs) (ad_mk l q :: ps)) := by
    intro ps ep h q hq dq ac
    have k := H (ad_mk l q :: ps) (congrArg (· + 1) ep) (fun x hx => by
      rcases List.mem_cons.mp hx with z | z
      · rw [z]
        exact ad_mk_3 h3 q
      · exact h x z) (by rw [ad_ac_s hl hs hq dq]; exact ac)
    rw [Nat.mul_assoc]
    exact k
  refine ⟨r, hr, d, em, ⟨Nat.succ.inj e, q3, b, eG2, fun ps ep h ac => ?_⟩, ?_, ?_⟩
  · have k := K ps ep h r hr d ac
    rw [em] at k
    refine ⟨k.1, fun z => ?_⟩
    rcases k.2 z with y | y
    · omega
    · exact y.2
  · have h := ad_M_l (w := w) hl h3 n (u + 1) r hr
    cases eM : ad_M w l L n (u + 1) r with
    | none =>
      rw [eM] at h
      exact absurd ⟨qs, Nat.succ.inj e, q3, b, rfl⟩ (h (ad_wt w (u + 1) qs))
    | some v =>
      rw [eM] at h
      refine ⟨v, rfl, ?_⟩
      have g1 : ad_wt w (u + 1) qs ≤ v := h.2 _ ⟨qs, Nat.succ.inj e, q3, b, rfl⟩
      obtain ⟨ps, ep, hp, ac, ew⟩ := h.1
      have k := (K ps ep hp r hr d ac).1
      rw [em, ew] at k
      have g2 : so * w (u * 4 + m) * ad_wt w (u + 1) qs ≤ so * w (u * 4 + m) * v := Nat.mul_le_mul_left _ g1
      omega
  · intro q v hq dq eM ev
    have h := ad_M_l (w := w) hl h3 n (u + 1) q hq
    rw [eM] at h
    obtain ⟨ps, ep, hp, ac, ew⟩ := h.1
    have k := (K ps ep hp q hq dq ac).2 (by rw [ew]; exact ev)
    refine ⟨?_, fun z => ad_uq hl hq hr dq d (z.trans em.symm)⟩
    rcases k with y | y
    · omega
    · omega
/-! the first of the best -/
def ad_Fs (A : Nat → Prop) (f : Nat → Nat) (n : Nat) (o : Option Nat) : Prop := match o with
  | none => ∀ c, c < n → ¬ A c
  | some d => d < n ∧ A d ∧ ∀ c, c < n → A c → f c ≤ f d ∧ (c < d → f c < f d)
theorem ad_Fs_0 {A : Nat → Prop} {f : Nat → Nat} : ad_Fs A f 0 none := fun c h => absurd h (Nat.not_lt_zero c)
theorem ad_Fs_k {A : Nat → Prop} {f : Nat → Nat} {n : Nat} {o : Option Nat} (h : ad_Fs A f n o) (a : ¬ A n) : ad_Fs A f (n + 1) o := by
  cases o with
  | none =>
    intro c hc ac
    by_cases e : c = n
    · exact a (e ▸ ac)
    · exact h c (by omega) ac
  | some d =>
    refine ⟨Nat.lt_succ_of_lt h.1, h.2.1, fun c hc ac => ?_⟩
    by_cases e : c = n
    · exact absurd (e ▸ ac) a
    · exact h.2.2 c (by omega) ac
theorem ad_Fs_n {A : Nat → Prop} {f : Nat → Nat} {n : Nat} (h : ad_Fs A f n none) (a : A n) : ad_Fs A f (n + 1) (some n) := by
  refine ⟨Nat.lt_succ_self n, a, fun c hc ac => ?_⟩
  by_cases e : c = n
  · rw [e]
    exact ⟨Nat.le_refl _, fun z => absurd z (Nat.lt_irrefl n)⟩
  · exact absurd ac (h c (by omega))
theorem ad_Fs_l {A : Nat → Prop} {f : Nat → Nat} {n d : Nat} (h : ad_Fs A f n (some d)) (le : f n ≤ f d) : ad_Fs A f (n + 1) (some d) := by
  refine ⟨Nat.lt_succ_of_lt h.1, h.2.1, fun c hc ac => ?_⟩
  by_cases e : c = n
  · rw [e]
    have := h.1
    exact ⟨le, fun z => by omega⟩
  · exact h.2.2 c (by omega) ac
theorem ad_Fs_g {A : Nat → Prop} {f : Nat → Nat} {n d : Nat} (h : ad_Fs A f n (some d)) (a : A n) (gt : f d < f n) : ad_Fs A f (n + 1) (some n) := by
  refine ⟨Nat.lt_succ_self n, a, fun c hc ac => ?_⟩
  by_cases e : c = n
  · rw [e]
    exact ⟨Nat.le_refl _, fun z => absurd z (Nat.lt_irrefl n)⟩
  · have := h.2.2 c (by omega) ac
    exact ⟨by omega, fun _ => by omega⟩
/-- the first best path's weight is the greatest -/
theorem ad_Fs_M {w l : Nat → Nat} {L T : Nat} {o : Option Nat} (h : ad_Fs (fun c => ad_ac false l L 0 (ad_pth T c) = true) (fun c => ad_wt w 0 (ad_pth T c)) (4 ^ T) o) : ad_MX (ad_S w l L T 0 0) (o.map (fun c => ad_wt w 0 (ad_pth T c))) := by
  cases o with
  | none =>
    rintro v ⟨ps, rfl, p3, a, _⟩
    obtain ⟨c, hc, e⟩ := ad_pth_e ps p3
    exact h c hc (by show ad_ac _ _ _ _ _ = true; rw [e]; exact a)
  | some d =>
    refine ⟨⟨ad_pth T d, ad_pth_l T d, ad_pth_3 T d, h.2.1, rfl⟩, ?_⟩
    rintro v ⟨ps, rfl, p3, a, rfl⟩
    obtain ⟨c, hc, e⟩ := ad_pth_e ps p3
    have k := (h.2.2 c hc (by show ad_ac _ _ _ _ _ = true; rw [e]; exact a)).1
    have k : ad_wt w 0 (ad_pth ps.length c) ≤ ad_wt w 0 (ad_pth ps.length d) := k
    rw [e] at k
    exact k
theorem ad_Fs_v {w l : Nat → Nat} {L T d : Nat} (h : ad_Fs (fun c => ad_ac false l L 0 (ad_pth T c) = true) (fun c => ad_wt w 0 (ad_pth T c)) (4 ^ T) (some d)) : ad_iv w l L (ad_wt w 0 (ad_pth T d)) T 0 0 1 (ad_pth T d) := by
  refine ⟨ad_pth_l T d, ad_pth_3 T d, h.2.1, Nat.one_mul _, ?_⟩
  rintro ps rfl p3 a
  obtain ⟨c, hc, e⟩ := ad_pth_e ps p3
  have k := h.2.2 c hc (by show ad_ac _ _ _ _ _ = true; rw [e]; exact a)
  have k1 : ad_wt w 0 (ad_pth ps.length c) ≤ ad_wt w 0 (ad_pth ps.length d) := k.1
  have k2 : c < d → ad_wt w 0 (ad_pth ps.length c) < ad_wt w 0 (ad_pth ps.length d) := k.2
  rw [e] at k1 k2
  rw [Nat.one_mul]
  refine ⟨k1, fun z => ?_⟩
  have x := ad_lx_p ps.length d c (by
    by_cases y : c < d
    · have := k2 y
      omega
    · omega) hc
  rw [e] at x
  exact x
end
section
/-! walks of the reference -/
def ad_ok (T L : Nat) (w l : Nat → Nat) (W B : Nat → Int32) : Prop := T ≤ 6 ∧ L ≤ 4 ∧ (∀ j, w j ≤ 8) ∧ (∀ j, l j ≤ 3) ∧ (∀ j, j < L → 1 ≤ l j) ∧ (∀ j, W j = nI (w j)) ∧ (∀ j, B j = nI (l j))
def ad_At (P : Nat → Int32) : Nat → List Nat → Prop
  | _, [] => True
  | t, m :: ps => P t = nI m ∧ ad_At P (t + 1) ps
theorem ad_At_s {R : Nat → Int32} {m : Nat} : ∀ (rs : List Nat) (i : Nat), ad_At R i rs → ad_At (upd R (i + rs.length) (nI m)) i (rs ++ [m])
  | [], i, _ => And.intro pk_us True.intro
  | a :: rs, i, h => by
    have k := ad_At_s (m := m) rs (i + 1) h.2
    rw [show i + 1 + rs.length = i + (a :: rs).length by rw [List.length_cons]; omega] at k
    refine And.intro ?_ k
    rw [pk_un (by rw [List.length_cons]; omega)]
    exact h.1
theorem ad_At_i {P : Nat → Int32} : ∀ (ps : List Nat) (t i : Nat), ad_At P t ps → i < ps.length → P (t + i) = nI (ad_at ps i)
  | [], _, _, _, h => absurd h (Nat.not_lt_zero _)
  | _ :: _, _, 0, h, _ => h.1
  | _ :: ps, t, i + 1, h, hi => by
    have k := ad_At_i ps (t + 1) i h.2 (Nat.lt_of_succ_lt_succ hi)
    rw [show t + 1 + i = t + (i + 1) by omega] at k
    exact k
theorem ad_suc {n f : Nat} (h : n < f) : ∃ k, f = k + 1 := ⟨f - 1, by omega⟩
theorem ad_46 {T : Nat} (hT : T ≤ 6) : 4 ^ T ≤ 4096 := Nat.le_trans (Nat.pow_le_pow_right (by decide) hT) (by decide)
theorem ad_ix4 (t m : Nat) : (4 : Int32) * nI t + nI m = nI (t * 4 + m) := by
  rw [Nat.mul_comm, ← nI_add, ← pk_mul]
  rfl
theorem ad_ixm (t m : Nat) : nI t * (4 : Int32) + nI m = nI (t * 4 + m) := by
  rw [← nI_add, ← pk_mul]
  rfl
theorem ad_ix9 (t m : Nat) : nI t * (9 : Int32) + nI m = nI (t * 9 + m) := by
  rw [← nI_add, ← pk_mul]
  rfl
theorem ad_dig {T t n c : Nat} (h : t + (n + 1) = T) (hT : T ≤ 6) (hc : c < 4096) : (nI c >>> ((2 * ((nI T - 1) - nI t)) &&& 31)) &&& 3 = nI (c / 4 ^ n % 4) := by
  have e : (2 : Int32) * ((nI T - 1) - nI t) = nI (2 * n) := by
    have a : nI T - 1 = nI (t + n) := by
      rw [← h]
      exact nI_pred (t + n)
    rw [a, pk_sub (by omega), show t + n - t = n by omega]
    exact pk_mul 2 n
  have h2 : c / 2 ^ (2 * n) ≤ c := Nat.div_le_self _ _
  rw [e, pk_shrN (by omega) _ (2 * n) (s_l (2 * n) (by omega)), pk_andN (by omega) 2 (by decide), Nat.pow_mul]
theorem ad_ysp {post : Int32 → SY → Prop} {T L c : Nat} {w : Nat → Nat} {W B R : Nat → Int32} (hW : ∀ j, W j = nI (w j)) (hT : T ≤ 6) (hc : c < 4096) : ∀ (n t x f : Nat) (P : Nat → Int32), t + n = T → n < f → (∀ P' : Nat → Int32, (∀ j, j < t → P' j = P j) → ad_At P' t (ad_pth n c) → post (nI (x * ad_wt w t (ad_pth n c))) (nI T, nI L, W, B, P', R)) → wY_spell_4 post (nI c) (nI T) (nI L) f (nI x) (nI t) W B P R := by
  intro n
  induction n with
  | zero =>
    intro t x f P h hf K
    obtain ⟨f, rfl⟩ := ad_suc hf
    refine br_t (nI_le (by omega) (by omega)) ?_
    have k := K P (fun _ _ => rfl) True.intro
    rw [show x * ad_wt w t (ad_pth 0 c) = x from Nat.mul_one x] at k
    exact k
  | succ n ih =>
    intro t x f P h hf K
    obtain ⟨f, rfl⟩ := ad_suc hf
    have hi : vp_in (nI t) 6 := vp_in_nI (by omega) (by decide)
    have hcl : (nI t).toNatClampNeg = t := nI_clamp (by omega)
    have hd : c / 4 ^ n % 4 < 4 := Nat.mod_lt _ (by decide)
    refine br_f (nI_ge (by omega) (by omega)) ⟨hi, fun P1 e1 => ⟨hi, ?_⟩⟩
    rw [hcl, ad_dig h hT hc] at e1
    have e2 : P1 t = nI (c / 4 ^ n % 4) := by rw [e1, pk_us]
    rw [hcl, e2, ad_ix4, nI_clamp (by omega), hW]
    refine ⟨vp_in_nI (by omega) (by decide), nm_r (pk_mul _ _) (nm_r (nI_1 t) ?_)⟩
    refine ih (t + 1) _ f P1 (by omega) (by omega) (fun P' h1 h2 => ?_)
    have k := K P' (fun j hj => by rw [h1 j (by omega), e1, pk_un (by omega)]) (And.intro ((h1 t (by omega)).trans e2) h2)
    rw [Nat.mul_assoc]
    exact k
theorem ad_spell {post : Int32 → SY → Prop} {T L c : Nat} {w : Nat → Nat} {W B P R : Nat → Int32} (hW : ∀ j, W j = nI (w j)) (hT : T ≤ 6) (hc : c < 4096) (K : ∀ P' : Nat → Int32, ad_At P' 0 (ad_pth T c) → post (nI (ad_wt w 0 (ad_pth T c))) (nI T, nI L, W, B, P', R)) : wpY_spell post (nI T, nI L, W, B, P, R) (nI c) :=
  Exists.intro (T + 1) (ad_ysp hW hT hc T 0 1 (T + 1) P (by omega) (by omega) (fun P' _ h => by rw [Nat.one_mul]; exact K P' h))
theorem ad_yrd {post : Int32 → SY → Prop} {T L : Nat} {W B P : Nat → Int32} (hT : T ≤ 6) : ∀ (ps : List Nat) (t q f : Nat) (rs : List Nat) (R : Nat → Int32), t + ps.length = T → ps.length < f → rs.length ≤ t → (∀ m, m ∈ ps → m ≤ 3) → q ≤ 3 → ad_At P t ps → ((t = 0 ∧ q = 0) ∨ (0 < t ∧ P (t - 1) = nI q)) → ad_At R 0 rs → (∀ R' : Nat → Int32, ad_At R' 0 (rs ++ ad_rd q ps) → post (nI (rs ++ ad_rd q ps).length) (nI T, nI L, W, B, P, R')) → wY_reads_4 post (nI T) (nI L) f (nI rs.length) (nI t) W B P R := by
  intro ps
  induction ps with
  | nil =>
    intro t q f rs R h hf hr h3 hq hP hp hR K
    obtain ⟨f, rfl⟩ := ad_suc hf
    have h : t + 0 = T := h
    refine br_t (nI_le (by omega) (by omega)) ?_
    have k := K R (by show ad_At R 0 (rs ++ []); rw [List.append_nil]; exact hR)
    have k : post (nI (rs ++ []).length) (nI T, nI L, W, B, P, R) := k
    rw [List.append_nil] at k
    exact k
  | cons m ps ih =>
    intro t q f rs R h hf hr h3 hq hP hp hR K
    obtain ⟨f, rfl⟩ := ad_suc hf
    rw [List.length_cons] at h hf
    have hm : m ≤ 3 := h3 m List.mem_cons_self
    have h3' : ∀ x, x ∈ ps → x ≤ 3 := fun x hx => h3 x (List.mem_cons_of_mem _ hx)
    have hi : vp_in (nI t) 6 := vp_in_nI (by omega) (by decide)
    have hcl : (nI t).toNatClampNeg = t := nI_clamp (by omega)
    have eP : P t = nI m := hP.1
    have J0 : (m = q ∨ m = 0) → wY_reads_4 post (nI T) (nI L) f (nI rs.length) (nI (t + 1)) W B P R := fun z =>
      ih (t + 1) m f rs R (by omega) (by omega) (by omega) h3' hm hP.2 (Or.inr ⟨by omega, eP⟩) hR (fun R' hR' => by rw [ad_rd_n ps z] at K; exact K R' hR')
    have F : (m ≠ 0 → m ≠ q) → wY_reads_38 post (wY_reads_4 post (nI T) (nI L) f) (nI rs.length) (nI t) 1 (nI T) (nI L) W B P R := fun z => by
      refine br_f (by decide) ⟨hi, ?_⟩
      rw [hcl, eP]
      by_cases m0 : m = 0
      · exact br_t (by rw [m0]; rfl) (nm_r (nI_1 t) (J0 (Or.inr m0)))
      · refine br_f (nI_ne0 (by omega) (by omega)) ⟨hi, vp_in_nI (by omega) (by decide), ?_⟩
        rw [nI_clamp (show rs.length < 2 ^ 31 by omega)]
        refine nm_e (nm_r (nI_1 _) (nm_r (nI_1 t) ?_))
        have el : rs.length + 1 = (rs ++ [m]).length := by rw [List.length_append]; rfl
        have k := ad_At_s (m := m) rs 0 hR
        rw [Nat.zero_add] at k
        rw [el]
        refine ih (t + 1) m f (rs ++ [m]) (upd R rs.length (nI m)) (by omega) (by omega) (by omega) h3' hm hP.2 (Or.inr ⟨by omega, eP⟩) k (fun R' hR' => ?_)
        have ea : rs ++ [m] ++ ad_rd m ps = rs ++ ad_rd q (m :: ps) := by
          rw [ad_rd_y ps (z m0) m0, List.append_assoc]
          rfl
        rw [ea] at hR' ⊢
        exact K R' hR'
    refine br_f (nI_ge (by omega) (by omega)) ?_
    rcases hp with ⟨t0, q0⟩ | ⟨tp, ep⟩
    · exact br_t (by rw [t0]; rfl) (F (fun z => by omega))
    · have e1 : nI t - 1 = nI (t - 1) := pk_sub (b := 1) (by omega)
      rw [e1, nI_clamp (show t - 1 < 2 ^ 31 by omega), hcl, eP, ep]
      refine br_f (nI_ne0 tp (by omega)) ⟨hi, vp_in_nI (by omega) (by decide), ?_⟩
      by_cases mq : m = q
      · exact br_t (by rw [mq]) (br_t rfl (nm_r (nI_1 t) (J0 (Or.inl mq))))
      · exact br_f (fun z => mq ((nI_eq (by omega) (by omega)).mp z)) (F (fun _ => mq))
theorem ad_reads {post : Int32 → SY → Prop} {T L : Nat} {W B P R : Nat → Int32} {ps : List Nat} (hT : T ≤ 6) (hl : ps.length = T) (h3 : ∀ m, m ∈ ps → m ≤ 3) (hP : ad_At P 0 ps) (K : ∀ R' : Nat → Int32, ad_At R' 0 (ad_rd 0 ps) → post (nI (ad_rd 0 ps).length) (nI T, nI L, W, B, P, R')) : wpY_reads post (nI T, nI L, W, B, P, R) :=
  Exists.intro (T + 1) (ad_yrd hT ps 0 0 (T + 1) [] R (by omega) (by omega) (Nat.le_refl 0) h3 (by omega) hP (Or.inl ⟨rfl, rfl⟩) True.intro K)
theorem ad_rd_3 : ∀ (ps : List Nat) (q : Nat), (∀ m, m ∈ ps → m ≤ 3) → (∀ m, m ∈ ad_rd q ps → m ≤ 3) ∧ (ad_rd q ps).length ≤ ps.length
  | [], _, h => ⟨h, Nat.le_refl _⟩
  | a :: ps, q, h => by
    have k := ad_rd_3 ps a (fun m hm => h m (List.mem_cons_of_mem _ hm))
    by_cases z : a ≠ q ∧ a ≠ 0
    · rw [ad_rd_y ps z.1 z.2]
      refine ⟨fun m hm => ?_, Nat.succ_le_succ k.2⟩
      rcases List.mem_cons.mp hm with e | e
      · rw [e]
        exact h a List.mem_cons_self
      · exact k.1 m e
    · rw [ad_rd_n ps (by omega)]
      exact ⟨k.1, Nat.le_succ_of_le k.2⟩
theorem ad_mt_1 : ∀ (as bs : List Nat), as.length = bs.length → ad_mt true as bs = ad_mt false as bs
  | [], [], _ => rfl
  | [], _ :: _, h => nomatch h
  | _ :: _, [], h => nomatch h
  | a :: as, b :: bs, h => by
    show (if a = b then ad_mt true as bs else false) = (if a = b then ad_mt false as bs else false)
    rw [ad_mt_1 as bs (Nat.succ.inj h)]
theorem ad_mt_2 : ∀ (as bs : List Nat), as.length ≠ bs.length → ad_mt false as bs = false
  | [], [], h => absurd rfl h
  | [], _ :: _, _ => rfl
  | _ :: _, [], _ => rfl
  | a :: as, b :: bs, h => by
    show (if a = b then ad_mt false as bs else false) = false
    rw [ad_mt_2 as bs (fun z => h (congrArg (· + 1) z))]
    split
    · rfl
    · rfl
theorem ad_mt_4 : ∀ (as bs : List Nat), bs.length < as.length → ad_mt true as bs = false
  | [], bs, h => absurd h (Nat.not_lt_zero _)
  | _ :: _, [], _ => rfl
  | a :: as, b :: bs, h => by
    show (if a = b then ad_mt true as bs else false) = false
    rw [ad_mt_4 as bs (Nat.lt_of_succ_lt_succ h)]
    split
    · rfl
    · rfl
theorem ad_yf0 {post : Int32 → SY → Prop} {F M x : Int32} {W B P R : Nat → Int32} (f : Nat) (K : post 0 (F, M, W, B, P, R)) : wY_fits_42 post F M W B P R (f + 1) 0 x :=
  br_c (fun _ => ⟨narrow_b0, K⟩) (fun _ => br_t rfl ⟨narrow_b0, K⟩)
def ad_i (b : Bool) : Int32 := if b = true then 1 else 0
theorem ad_yf1 {post : Int32 → SY → Prop} {T L : Nat} {l : Nat → Nat} {W B P R : Nat → Int32} (hB : ∀ j, B j = nI (l j)) (hL : L ≤ 4) (hl3 : ∀ j, l j ≤ 3) : ∀ (n k f : Nat) (rs : List Nat), k + n = L → n < f → n ≤ rs.length → ad_At R k rs → (∀ m, m ∈ rs → m ≤ 3) → post (ad_i (ad_mt true (ad_lb l k n) rs)) (nI T, nI L, W, B, P, R) → wY_fits_42 post (nI T) (nI L) W B P R f 1 (nI k) := by
  intro n
  induction n with
  | zero =>
    intro k f rs h hf hr hR h3 K
    obtain ⟨f, rfl⟩ := ad_suc hf
    have K : post (ad_i (ad_mt true [] rs)) (nI T, nI L, W, B, P, R) := K
    rw [ad_mt_t] at K
    exact br_t (nI_le (by omega) (by omega)) ⟨narrow_b1, K⟩
  | succ n ih =>
    intro k f rs h hf hr hR h3 K
    obtain ⟨f, rfl⟩ := ad_suc hf
    match rs, hr, hR, h3, K with
    | m :: rs, hr, hR, h3, K =>
      have hm : m ≤ 3 := h3 m List.mem_cons_self
      have eR : R k = nI m := hR.1
      have hlk := hl3 k
      refine br_f (nI_ge (by omega) (by omega)) (br_f (by decide) ⟨vp_in_nI (by omega) (by decide), vp_in_nI (by omega) (by decide), ?_⟩)
      rw [nI_clamp (show k < 2 ^ 31 by omega), eR, hB]
      have K : post (ad_i (if l k = m then ad_mt true (ad_lb l (k + 1) n) rs else false)) (nI T, nI L, W, B, P, R) := K
      by_cases e : l k = m
      · rw [if_pos e] at K
        exact br_t (by rw [e]) (nm_r (nI_1 k) (ih (k + 1) f rs (by omega) (by omega) (Nat.le_of_succ_le_succ hr) hR.2 (fun x hx => h3 x (List.mem_cons_of_mem _ hx)) K))
      · rw [if_neg e] at K
        obtain ⟨f, rfl⟩ := ad_suc (n := n) (f := f) (by omega)
        exact br_f (fun z => e ((nI_eq (by omega) (by omega)).mp z).symm) (nm_e (ad_yf0 f K))
section
variable {post : Int32 → SY → Prop} {T L : Nat} {w l : Nat → Nat} {W B P R : Nat → Int32} {ps : List Nat}
theorem ad_fit0 (ok : ad_ok T L w l W B) (hl : ps.length = T) (h3 : ∀ m, m ∈ ps → m ≤ 3) (hP : ad_At P 0 ps) (K : ∀ R' : Nat → Int32, post (ad_i (ad_ac false l L 0 ps)) (nI T, nI L, W, B, P, R')) : wpY_fits post (nI T, nI L, W, B, P, R) 0 := by
  obtain ⟨hT, hL, _, l3, _, _, hB⟩ := ok
  unfold wpY_fits
  refine ad_reads hT hl h3 hP (fun R1 h1 => ?_)
  have k3 := ad_rd_3 ps 0 h3
  refine br_t rfl ?_
  by_cases e : (ad_rd 0 ps).length = L
  · refine br_t (by rw [e]) ⟨L + 1, ?_⟩
    refine ad_yf1 hB hL l3 L 0 (L + 1) (ad_rd 0 ps) (by omega) (by omega) (by omega) h1 k3.1 ?_
    rw [ad_mt_1 _ _ (by rw [ad_lb_l, e])]
    exact K R1
  · refine br_f (fun z => e ((nI_eq (by omega) (by omega)).mp z)) ⟨0 + 1, ad_yf0 0 ?_⟩
    have k := K R1
    rw [ad_ac_0, ad_mt_2 _ _ (by rw [ad_lb_l]; omega)] at k
    exact k
theorem ad_fit1 (ok : ad_ok T L w l W B) (hl : ps.length = T) (h3 : ∀ m, m ∈ ps → m ≤ 3) (hP : ad_At P 0 ps) (K : ∀ R' : Nat → Int32, post (ad_i (ad_ac true l L 0 ps)) (nI T, nI L, W, B, P, R')) : wpY_fits post (nI T, nI L, W, B, P, R) 1 := by
  obtain ⟨hT, hL, _, l3, _, _, hB⟩ := ok
  unfold wpY_fits
  refine ad_reads hT hl h3 hP (fun R1 h1 => ?_)
  have k3 := ad_rd_3 ps 0 h3
  refine br_f (by decide) ?_
  by_cases e : (ad_rd 0 ps).length < L
  · refine br_t (nI_lt e (by omega)) ⟨0 + 1, ad_yf0 0 ?_⟩
    have k := K R1
    rw [ad_ac_0, ad_mt_4 _ _ (by rw [ad_lb_l]; omega)] at k
    exact k
  · refine br_f (nI_nlt (by omega) (by omega)) ⟨L + 1, ?_⟩
    refine ad_yf1 hB hL l3 L 0 (L + 1) (ad_rd 0 ps) (by omega) (by omega) (by omega) h1 k3.1 ?_
    exact K R1
theorem ad_all {q : Int32 → Prop} {M : Int32} (hT : T ≤ 6) (K : q (nI (4 ^ T))) : wpY_all q (nI T, M, W, B, P, R) := by
  have e : (1 : Int32) <<< ((2 * nI T) &&& 31) = nI (4 ^ T) := by
    have e2 : (2 : Int32) * nI T = nI (2 * T) := pk_mul 2 T
    have h : 2 ^ (2 * T) = 4 ^ T := Nat.pow_mul 2 2 T
    have h4 := ad_46 hT
    rw [e2, ← h, ← Nat.one_mul (2 ^ (2 * T))]
    exact pk_shlN (n := 1) _ (2 * T) (s_l (2 * T) (by omega)) (by omega)
  show q ((1 : Int32) <<< ((2 * nI T) &&& 31))
  rw [e]
  exact K
end
end
section
/-! the reference's loops over all paths -/
theorem ad_ipos {b : Bool} (h : b = true) : ¬ ad_i b = 0 := by
  rw [h]
  decide
theorem ad_ineg {b : Bool} (h : ¬ b = true) : ad_i b = 0 := if_neg h
def ad_Ft (g : Bool) (w l : Nat → Nat) (L T : Nat) : Nat → Nat := fun c => if ad_ac g l L 0 (ad_pth T c) = true then ad_wt w 0 (ad_pth T c) else 0
theorem ad_Ft_y {g : Bool} {w l : Nat → Nat} {L T c : Nat} (a : ad_ac g l L 0 (ad_pth T c) = true) : ad_sm (ad_Ft g w l L T) (c + 1) = ad_sm (ad_Ft g w l L T) c + ad_wt w 0 (ad_pth T c) := congrArg (fun k => ad_sm (ad_Ft g w l L T) c + k) (if_pos a)
theorem ad_Ft_n {g : Bool} {w l : Nat → Nat} {L T c : Nat} (a : ¬ ad_ac g l L 0 (ad_pth T c) = true) : ad_sm (ad_Ft g w l L T) (c + 1) = ad_sm (ad_Ft g w l L T) c := congrArg (fun k => ad_sm (ad_Ft g w l L T) c + k) (if_neg a)
theorem ad_wt_1 : ∀ (ps : List Nat) (t : Nat), ad_wt (fun _ => 1) t ps = 1
  | [], _ => rfl
  | _ :: ps, t => (Nat.one_mul _).trans (ad_wt_1 ps (t + 1))
section
variable {post : Int32 → SY → Prop} {T L : Nat} {w l : Nat → Nat} {W B : Nat → Int32}
theorem ad_ytl (ok : ad_ok T L w l W B) : ∀ (n c f : Nat) (P R : Nat → Int32), c + n = 4 ^ T → n < f → (∀ P' R' : Nat → Int32, post (nI (ad_sm (ad_Ft false w l L T) (4 ^ T))) (nI T, nI L, W, B, P', R')) → wY_total_4 post f (nI (ad_sm (ad_Ft false w l L T) c)) (nI c) (nI T) (nI L) W B P R := by
  intro n
  have h4 := ad_46 ok.1
  induction n with
  | zero =>
    intro c f P R h hf K
    obtain ⟨f, rfl⟩ := ad_suc hf
    rw [wY_total_4]
    refine ad_all ok.1 (br_t (nI_le (by omega) (by omega)) ?_)
    rw [show c = 4 ^ T by omega]
    exact K P R
  | succ n ih =>
    intro c f P R h hf K
    obtain ⟨f, rfl⟩ := ad_suc hf
    rw [wY_total_4]
    refine ad_all ok.1 (br_f (nI_ge (by omega) (by omega)) ?_)
    refine ad_spell ok.2.2.2.2.2.1 ok.1 (by omega) (fun P1 h1 => ?_)
    refine ad_fit0 ok (ad_pth_l T c) (ad_pth_3 T c) h1 (fun R1 => ?_)
    have k := ih (c + 1) f P1 R1 (by omega) (by omega) K
    by_cases a : ad_ac false l L 0 (ad_pth T c) = true
    · rw [ad_Ft_y a] at k
      exact br_f (ad_ipos a) (nm_r (nI_add _ _) (nm_r (nI_1 c) k))
    · rw [ad_Ft_n a] at k
      exact br_t (ad_ineg a) (nm_r (nI_1 c) k)
theorem ad_ypl (ok : ad_ok T L w l W B) : ∀ (n c f : Nat) (P R : Nat → Int32), c + n = 4 ^ T → n < f → (∀ P' R' : Nat → Int32, post (nI (ad_sm (ad_Ft false (fun _ => 1) l L T) (4 ^ T))) (nI T, nI L, W, B, P', R')) → wY_paths_4 post f (nI (ad_sm (ad_Ft false (fun _ => 1) l L T) c)) (nI c) (nI T) (nI L) W B P R := by
  intro n
  have h4 := ad_46 ok.1
  induction n with
  | zero =>
    intro c f P R h hf K
    obtain ⟨f, rfl⟩ := ad_suc hf
    rw [wY_paths_4]
    refine ad_all ok.1 (br_t (nI_le (by omega) (by omega)) ?_)
    rw [show c = 4 ^ T by omega]
    exact K P R
  | succ n ih =>
    intro c f P R h hf K
    obtain ⟨f, rfl⟩ := ad_suc hf
    rw [wY_paths_4]
    refine ad_all ok.1 (br_f (nI_ge (by omega) (by omega)) ?_)
    refine ad_spell ok.2.2.2.2.2.1 ok.1 (by omega) (fun P1 h1 => ?_)
    refine ad_fit0 ok (ad_pth_l T c) (ad_pth_3 T c) h1 (fun R1 => ?_)
    have k := ih (c + 1) f P1 R1 (by omega) (by omega) K
    by_cases a : ad_ac false l L 0 (ad_pth T c) = true
    · rw [ad_Ft_y a, ad_wt_1] at k
      exact br_f (ad_ipos a) (nm_r (nI_1 _) (nm_r (nI_1 c) k))
    · rw [ad_Ft_n a] at k
      exact br_t (ad_ineg a) (nm_r (nI_1 c) k)
theorem ad_yql (ok : ad_ok T L w l W B) : ∀ (n c f : Nat) (P R : Nat → Int32), c + n = 4 ^ T → n < f → (∀ P' R' : Nat → Int32, post (nI (ad_sm (ad_Ft true w l L T) (4 ^ T))) (nI T, nI L, W, B, P', R')) → wY_prefix_4 post f (nI (ad_sm (ad_Ft true w l L T) c)) (nI c) (nI T) (nI L) W B P R := by
  intro n
  have h4 := ad_46 ok.1
  induction n with
  | zero =>
    intro c f P R h hf K
    obtain ⟨f, rfl⟩ := ad_suc hf
    rw [wY_prefix_4]
    refine ad_all ok.1 (br_t (nI_le (by omega) (by omega)) ?_)
    rw [show c = 4 ^ T by omega]
    exact K P R
  | succ n ih =>
    intro c f P R h hf K
    obtain ⟨f, rfl⟩ := ad_suc hf
    rw [wY_prefix_4]
    refine ad_all ok.1 (br_f (nI_ge (by omega) (by omega)) ?_)
    refine ad_spell ok.2.2.2.2.2.1 ok.1 (by omega) (fun P1 h1 => ?_)
    refine ad_fit1 ok (ad_pth_l T c) (ad_pth_3 T c) h1 (fun R1 => ?_)
    have k := ih (c + 1) f P1 R1 (by omega) (by omega) K
    by_cases a : ad_ac true l L 0 (ad_pth T c) = true
    · rw [ad_Ft_y a] at k
      exact br_f (ad_ipos a) (nm_r (nI_add _ _) (nm_r (nI_1 c) k))
    · rw [ad_Ft_n a] at k
      exact br_t (ad_ineg a) (nm_r (nI_1 c) k)
theorem ad_yel (ok : ad_ok T L w l W B) : ∀ (n c f : Nat) (P R : Nat → Int32), c + n = 4 ^ T → n < f → (∀ P' R' : Nat → Int32, post (nI (ad_sm (fun c => ad_wt w 0 (ad_pth T c)) (4 ^ T))) (nI T, nI L, W, B, P', R')) → wY_everything_4 post f (nI (ad_sm (fun c => ad_wt w 0 (ad_pth T c)) c)) (nI c) (nI T) (nI L) W B P R := by
  intro n
  have h4 := ad_46 ok.1
  induction n with
  | zero =>
    intro c f P R h hf K
    obtain ⟨f, rfl⟩ := ad_suc hf
    rw [wY_everything_4]
    refine ad_all ok.1 (br_t (nI_le (by omega) (by omega)) ?_)
    rw [show c = 4 ^ T by omega]
    exact K P R
  | succ n ih =>
    intro c f P R h hf K
    obtain ⟨f, rfl⟩ := ad_suc hf
    rw [wY_everything_4]
    refine ad_all ok.1 (br_f (nI_ge (by omega) (by omega)) ?_)
    refine ad_spell ok.2.2.2.2.2.1 ok.1 (by omega) (fun P1 h1 => ?_)
    exact nm_r (nI_add _ _) (nm_r (nI_1 c) (ih (c + 1) f P1 R (by omega) (by omega) K))
def ad_Fh (w l : Nat → Nat) (L T t m : Nat) : Nat → Nat := fun c => if ad_at (ad_pth T c) t = m ∧ ad_ac false l L 0 (ad_pth T c) = true then ad_wt w 0 (ad_pth T c) else 0
theorem ad_Fh_y {w l : Nat → Nat} {L T t m c : Nat} (a : ad_at (ad_pth T c) t = m ∧ ad_ac false l L 0 (ad_pth T c) = true) : ad_sm (ad_Fh w l L T t m) (c + 1) = ad_sm (ad_Fh w l L T t m) c + ad_wt w 0 (ad_pth T c) := congrArg (fun k => ad_sm (ad_Fh w l L T t m) c + k) (if_pos a)
theorem ad_Fh_n {w l : Nat → Nat} {L T t m c : Nat} (a : ¬ (ad_at (ad_pth T c) t = m ∧ ad_ac false l L 0 (ad_pth T c) = true)) : ad_sm (ad_Fh w l L T t m) (c + 1) = ad_sm (ad_Fh w l L T t m) c := congrArg (fun k => ad_sm (ad_Fh w l L T t m) c + k) (if_neg a)
theorem ad_at_3 : ∀ (ps : List Nat) (i : Nat), (∀ m, m ∈ ps → m ≤ 3) → ad_at ps i ≤ 3
  | [], _, _ => Nat.zero_le 3
  | _ :: _, 0, h => h _ List.mem_cons_self
  | _ :: ps, i + 1, h => ad_at_3 ps i (fun m hm => h m (List.mem_cons_of_mem _ hm))
theorem ad_yhl (ok : ad_ok T L w l W B) {t m : Nat} (ht : t < T) (hm : m ≤ 3) : ∀ (n c f : Nat) (P R : Nat → Int32), c + n = 4 ^ T → n < f → (∀ P' R' : Nat → Int32, post (nI (ad_sm (ad_Fh w l L T t m) (4 ^ T))) (nI T, nI L, W, B, P', R')) → wY_through_23 post (nI t) (nI m) f (nI (ad_sm (ad_Fh w l L T t m) c)) (nI c) (nI T) (nI L) W B P R := by
  intro n
  have h4 := ad_46 ok.1
  have h6 := ok.1
  induction n with
  | zero =>
    intro c f P R h hf K
    obtain ⟨f, rfl⟩ := ad_suc hf
    rw [wY_through_23]
    refine ad_all ok.1 (br_t (nI_le (by omega) (by omega)) ?_)
    rw [show c = 4 ^ T by omega]
    exact K P R
  | succ n ih =>
    intro c f P R h hf K
    obtain ⟨f, rfl⟩ := ad_suc hf
    rw [wY_through_23]
    refine ad_all ok.1 (br_f (nI_ge (by omega) (by omega)) ?_)
    refine ad_spell ok.2.2.2.2.2.1 ok.1 (by omega) (fun P1 h1 => ?_)
    refine And.intro (vp_in_nI (by omega) (by decide)) ?_
    have e1 := ad_At_i (ad_pth T c) 0 t h1 (by rw [ad_pth_l]; exact ht)
    rw [Nat.zero_add] at e1
    have a3 := ad_at_3 (ad_pth T c) t (ad_pth_3 T c)
    rw [nI_clamp (show t < 2 ^ 31 by omega), e1]
    by_cases em : ad_at (ad_pth T c) t = m
    · refine br_t (by rw [em]) ?_
      refine ad_fit0 ok (ad_pth_l T c) (ad_pth_3 T c) h1 (fun R1 => ?_)
      have k := ih (c + 1) f P1 R1 (by omega) (by omega) K
      by_cases a : ad_ac false l L 0 (ad_pth T c) = true
      · rw [ad_Fh_y ⟨em, a⟩] at k
        exact br_f (ad_ipos a) (nm_r (nI_add _ _) (nm_r (nI_1 c) k))
      · rw [ad_Fh_n (fun z => a z.2)] at k
        exact br_t (ad_ineg a) (nm_r (nI_1 c) k)
    · have k := ih (c + 1) f P1 R (by omega) (by omega) K
      rw [ad_Fh_n (fun z => em z.1)] at k
      exact br_f (fun z => em ((nI_eq (by omega) (by omega)).mp z)) (nm_r (nI_1 c) k)
def ad_en (x : Option Nat) : Int32 := match x with
  | none => -1
  | some v => nI v
abbrev ad_A (l : Nat → Nat) (L T : Nat) : Nat → Prop := fun c => ad_ac false l L 0 (ad_pth T c) = true
abbrev ad_f (w : Nat → Nat) (T : Nat) : Nat → Nat := fun c => ad_wt w 0 (ad_pth T c)
theorem ad_f8 (h8 : ∀ j, w j ≤ 8) (hT : T ≤ 6) (c : Nat) : ad_f w T c ≤ 262144 := by
  have a := ad_wt_8 h8 (ad_pth T c) 0
  rw [ad_pth_l] at a
  have b : 8 ^ T ≤ 8 ^ 6 := Nat.pow_le_pow_right (by decide) hT
  exact Nat.le_trans a b
theorem ad_yfl (ok : ad_ok T L w l W B) (K : ∀ (o : Option Nat) (P' R' : Nat → Int32), ad_Fs (ad_A l L T) (ad_f w T) (4 ^ T) o → post (ad_en o) (nI T, nI L, W, B, P', R')) : ∀ (n c f : Nat) (o : Option Nat) (y : Int32) (P R : Nat → Int32), c + n = 4 ^ T → n < f → ad_Fs (ad_A l L T) (ad_f w T) c o → (∀ d, o = some d → y = nI (ad_f w T d)) → wY_first_6 post f (ad_en o) y (nI c) (nI T) (nI L) W B P R := by
  intro n
  have h4 := ad_46 ok.1
  have h8 := ad_f8 (T := T) ok.2.2.1 ok.1
  induction n with
  | zero =>
    intro c f o y P R h hf F _
    obtain ⟨f, rfl⟩ := ad_suc hf
    rw [wY_first_6]
    refine ad_all ok.1 (br_t (nI_le (by omega) (by omega)) ?_)
    rw [show c = 4 ^ T by omega] at F
    exact K o P R F
  | succ n ih =>
    intro c f o y P R h hf F hy
    obtain ⟨f, rfl⟩ := ad_suc hf
    rw [wY_first_6]
    refine ad_all ok.1 (br_f (nI_ge (by omega) (by omega)) ?_)
    refine ad_spell ok.2.2.2.2.2.1 ok.1 (by omega) (fun P1 h1 => ?_)
    refine ad_fit0 ok (ad_pth_l T c) (ad_pth_3 T c) h1 (fun R1 => ?_)
    by_cases a : ad_ac false l L 0 (ad_pth T c) = true
    · refine br_f (ad_ipos a) ?_
      cases o with
      | none =>
        exact br_t (by decide) (nm_r (nI_1 c) (ih (c + 1) f (some c) _ P1 R1 (by omega) (by omega) (ad_Fs_n F a) (fun d e => by cases e; rfl)))
      | some d =>
        have hd : d < c := F.1
        rw [hy d rfl]
        refine br_f (nI_pos (show d < 2 ^ 31 by omega)) ?_
        have b1 := h8 c
        have b2 := h8 d
        by_cases le : ad_f w T c ≤ ad_f w T d
        · exact br_t (nI_le le (by omega)) (nm_r (nI_1 c) (ih (c + 1) f (some d) _ P1 R1 (by omega) (by omega) (ad_Fs_l F le) (fun d' e => by cases e; rfl)))
        · exact br_f (nI_ge (a := ad_f w T d) (b := ad_f w T c) (by omega) (by omega)) (nm_r (nI_1 c) (ih (c + 1) f (some c) _ P1 R1 (by omega) (by omega) (ad_Fs_g F a (by omega)) (fun d' e => by cases e; rfl)))
    · exact br_t (ad_ineg a) (nm_r (nI_1 c) (ih (c + 1) f o y P1 R1 (by omega) (by omega) (ad_Fs_k F a) hy))
variable {P R : Nat → Int32}
theorem ad_ytot (ok : ad_ok T L w l W B) (K : ∀ P' R' : Nat → Int32, post (nI (ad_O false w l L 0 T 0)) (nI T, nI L, W, B, P', R')) : wpY_total post (nI T, nI L, W, B, P, R) :=
  Exists.intro (4 ^ T + 1) (ad_ytl ok (4 ^ T) 0 (4 ^ T + 1) P R (Nat.zero_add _) (Nat.lt_succ_self _) K)
theorem ad_ypaths (ok : ad_ok T L w l W B) (K : ∀ P' R' : Nat → Int32, post (nI (ad_O false (fun _ => 1) l L 0 T 0)) (nI T, nI L, W, B, P', R')) : wpY_paths post (nI T, nI L, W, B, P, R) :=
  Exists.intro (4 ^ T + 1) (ad_ypl ok (4 ^ T) 0 (4 ^ T + 1) P R (Nat.zero_add _) (Nat.lt_succ_self _) K)
theorem ad_ypre (ok : ad_ok T L w l W B) (K : ∀ P' R' : Nat → Int32, post (nI (ad_O true w l L 0 T 0)) (nI T, nI L, W, B, P', R')) : wpY_prefix post (nI T, nI L, W, B, P, R) :=
  Exists.intro (4 ^ T + 1) (ad_yql ok (4 ^ T) 0 (4 ^ T + 1) P R (Nat.zero_add _) (Nat.lt_succ_self _) K)
theorem ad_yev (ok : ad_ok T L w l W B) (K : ∀ P' R' : Nat → Int32, post (nI (ad_E w 0 T)) (nI T, nI L, W, B, P', R')) : wpY_everything post (nI T, nI L, W, B, P, R) :=
  Exists.intro (4 ^ T + 1) (ad_yel ok (4 ^ T) 0 (4 ^ T + 1) P R (Nat.zero_add _) (Nat.lt_succ_self _) (fun P' R' => by rw [ad_ev]; exact K P' R'))
theorem ad_yfirst (ok : ad_ok T L w l W B) (K : ∀ (o : Option Nat) (P' R' : Nat → Int32), ad_Fs (ad_A l L T) (ad_f w T) (4 ^ T) o → post (ad_en o) (nI T, nI L, W, B, P', R')) : wpY_first post (nI T, nI L, W, B, P, R) :=
  Exists.intro (4 ^ T + 1) (ad_yfl ok K (4 ^ T) 0 (4 ^ T + 1) none 0 P R (Nat.zero_add _) (Nat.lt_succ_self _) ad_Fs_0 (fun _ e => nomatch e))
end
end
section
/-! walks of the component: its small methods, and the sums from frame to frame -/
def ad_pw (p : Int32) (w : Nat → Nat) : Nat → Nat := if p = 0 then w else fun _ => 1
theorem ad_pw_0 (w : Nat → Nat) : ad_pw 0 w = w := if_pos rfl
theorem ad_pw_1 (w : Nat → Nat) : ad_pw 1 w = fun _ => 1 := if_neg (by decide)
theorem ad_2 (L : Nat) : (2 : Int32) * nI L = nI (2 * L) := pk_mul 2 L
section
variable {q : Int32 → Prop} {F M p : Int32} {T L : Nat} {w l : Nat → Nat} {W B a b c : Nat → Int32}
theorem ad_xmk {s : Nat} (hB : ∀ j, B j = nI (l j)) (hs : s ≤ 8) (K : q (nI (ad_mk l s))) : wpX_markAt q (F, M, p, W, B, a, b, c) (nI s) := by
  have e : nI s &&& 1 = nI (s % 2) := pk_andN (by omega) 1 (by decide)
  show ((nI s &&& 1) = 0 → q 0) ∧ (¬ (nI s &&& 1) = 0 → (vp_in (nI s >>> ((1 : Int32) &&& 31)) 4 ∧ q (B (nI s >>> ((1 : Int32) &&& 31)).toNatClampNeg)))
  rw [e]
  unfold ad_mk at K
  by_cases h : s % 2 = 0
  · rw [if_pos h] at K
    exact br_t (by rw [h]; rfl) K
  · rw [if_neg h] at K
    have e2 : nI s >>> ((1 : Int32) &&& 31) = nI (s / 2) := pk_shrN (by omega) _ 1 (by decide)
    rw [e2, nI_clamp (by omega), hB]
    exact br_f (nI_ne0 (by omega) (by omega)) ⟨vp_in_nI (by omega) (by decide), K⟩
theorem ad_xwt {t m : Nat} (hW : ∀ j, W j = nI (w j)) (h : t * 4 + m < 24) (K : q (nI (ad_pw p w (t * 4 + m)))) : wpX_weightOf q (F, M, p, W, B, a, b, c) (nI t) (nI m) := by
  show (p = 0 → (vp_in ((nI t * 4) + nI m) 24 ∧ q (W ((nI t * 4) + nI m).toNatClampNeg))) ∧ (¬ p = 0 → q 1)
  unfold ad_pw at K
  rw [ad_ixm, nI_clamp (by omega), hW]
  by_cases z : p = 0
  · rw [if_pos z] at K
    exact br_t z ⟨vp_in_nI h (by decide), K⟩
  · rw [if_neg z] at K
    exact br_f z K
theorem ad_xld {r s : Nat} (hB : ∀ j, B j = nI (l j)) (h3 : ∀ j, l j ≤ 3) (hr : r ≤ 8) (hs : s ≤ 8) (K : q (ad_i (ad_ld l r s))) : wpX_leads q (F, M, p, W, B, a, b, c) (nI r) (nI s) := by
  have e1 : nI r + 1 = nI (r + 1) := nI_1 r
  have e2 : nI r + 2 = nI (r + 2) := nI_add r 2
  have e3 : nI s &&& 1 = nI (s % 2) := pk_andN (by omega) 1 (by decide)
  unfold wpX_leads
  dsimp only
  rw [e1, e2, e3]
  by_cases h0 : s = r
  · rw [ad_ld_i.mpr (Or.inl h0)] at K
    exact br_t (by rw [h0]) K
  refine br_f (fun z => h0 ((nI_eq (by omega) (by omega)).mp z)) ?_
  by_cases h1 : s = r + 1
  · rw [ad_ld_i.mpr (Or.inr (Or.inl h1))] at K
    exact br_t (by rw [h1]) K
  refine br_f (fun z => h1 ((nI_eq (by omega) (by omega)).mp z)) ?_
  by_cases h2 : s = r + 2
  · refine br_t (by rw [h2]) ?_
    by_cases h4 : s % 2 = 1
    · refine br_t (by rw [h4]; rfl) ?_
      refine ad_xmk hB hs (ad_xmk hB hr ?_)
      have m1 := ad_mk_3 h3 s
      have m2 := ad_mk_3 h3 r
      by_cases h5 : ad_mk l s = ad_mk l r
      · have n : ¬ ad_ld l r s = true := fun z => by
          have := ad_ld_i.mp z
          omega
        rw [Bool.not_eq_true] at n
        rw [n] at K
        exact br_t (by rw [h5]) K
      · rw [ad_ld_i.mpr (Or.inr (Or.inr ⟨h2, h4, h5⟩))] at K
        exact br_f (fun z => h5 ((nI_eq (by omega) (by omega)).mp z)) K
    · have n : ¬ ad_ld l r s = true := fun z => by
        have := ad_ld_i.mp z
        omega
      rw [Bool.not_eq_true] at n
      rw [n] at K
      exact br_f (fun z => h4 ((nI_eq (a := s % 2) (b := 1) (by omega) (by omega)).mp z)) K
  · have n : ¬ ad_ld l r s = true := fun z => by
      have := ad_ld_i.mp z
      omega
    rw [Bool.not_eq_true] at n
    rw [n] at K
    exact br_f (fun z => h2 ((nI_eq (by omega) (by omega)).mp z)) K
theorem ad_xen {s : Nat} (hL : L ≤ 4) (hs : s ≤ 8) (K : q (ad_i (decide (2 * L ≤ s + 1)))) : wpX_endsAt q (F, nI L, p, W, B, a, b, c) (nI s) := by
  show (nI s < ((2 * nI L) - 1) → q 0) ∧ (¬ nI s < ((2 * nI L) - 1) → q 1)
  by_cases h0 : L = 0
  · rw [decide_eq_true (show 2 * L ≤ s + 1 by omega)] at K
    rw [h0]
    refine br_f (fun z => ?_) K
    have z := Int32.lt_iff_toInt_lt.mp z
    rw [nI_toInt (by omega), show (2 * nI 0 - 1).toInt = -1 by decide] at z
    omega
  · have e : (2 * nI L) - 1 = nI (2 * L - 1) := by
      rw [ad_2]
      exact pk_sub (b := 1) (by omega)
    rw [e]
    by_cases h : 2 * L ≤ s + 1
    · rw [decide_eq_true h] at K
      exact br_f (nI_nlt (by omega) (by omega)) K
    · rw [decide_eq_false h] at K
      exact br_t (nI_lt (by omega) (by omega)) K
end
/-- what place s + i - 2 of the frame before adds -/
def ad_cv (w l : Nat → Nat) (N t s i : Nat) : Nat := if 0 < t ∧ 2 ≤ s + i ∧ ad_ld l (s + i - 2) s = true then ad_V w l N t (s + i - 2) else 0
theorem ad_cv_t {w l : Nat → Nat} {N t s i : Nat} (h : 0 < t) : ad_cv w l N t s i = if 2 ≤ s + i then (if ad_ld l (s + i - 2) s = true then ad_V w l N t (s + i - 2) else 0) else 0 := by
  unfold ad_cv
  by_cases h2 : 2 ≤ s + i
  · rw [if_pos h2]
    by_cases h3 : ad_ld l (s + i - 2) s = true
    · rw [if_pos h3, if_pos ⟨h, h2, h3⟩]
    · rw [if_neg h3, if_neg (fun z => h3 z.2.2)]
  · rw [if_neg h2, if_neg (fun z => h2 z.2.1)]
theorem ad_cv_0 {w l : Nat → Nat} {N s i : Nat} : ad_cv w l N 0 s i = 0 := if_neg (fun z => absurd z.1 (Nat.lt_irrefl 0))
theorem ad_sm_v0 {w l : Nat → Nat} {N K s : Nat} (hK : 0 < K) : ad_sm (fun r => if ad_ld l r s = true then ad_V w l N 0 r else 0) K = if s ≤ 1 then 1 else 0 := by
  rw [ad_sm_1 (k := 0) hK (fun i _ ne => by
    show (if ad_ld l i s = true then (if i = 0 then 1 else 0) else 0) = 0
    rw [if_neg ne]
    split
    · rfl
    · rfl)]
  show (if ad_ld l 0 s = true then 1 else 0) = _
  by_cases h : s ≤ 1
  · rw [if_pos h, if_pos (ad_ld_i.mpr (by omega))]
  · rw [if_neg h, if_neg (fun z => by have := ad_ld_i.mp z; omega)]
theorem ad_cvV {w l : Nat → Nat} {N t s : Nat} (hs : s < N) : ((if t = 0 ∧ s ≤ 1 then 1 else 0) + ad_cv w l N t s 0 + ad_cv w l N t s 1 + ad_cv w l N t s 2) * w (t * 4 + ad_mk l s) = ad_V w l N (t + 1) s := by
  rw [ad_V_s]
  refine congrArg (fun k => k * _) ?_
  by_cases h : t = 0
  · subst h
    rw [ad_cv_0, ad_cv_0, ad_cv_0, ad_sm_v0 (by omega)]
    by_cases h1 : s ≤ 1
    · rw [if_pos h1, if_pos ⟨rfl, h1⟩]
    · rw [if_neg h1, if_neg (fun z => h1 z.2)]
  · rw [if_neg (fun z => h z.1), ad_3b hs (fun r hr z => if_neg (fun y => by have := ad_ld_r y; omega)), ad_cv_t (by omega), ad_cv_t (by omega), ad_cv_t (by omega), Nat.zero_add, Nat.add_zero, if_pos (show 2 ≤ s + 2 by omega), show s + 2 - 2 = s by omega]
    by_cases h1 : 1 ≤ s
    · rw [if_pos h1, if_pos (show 2 ≤ s + 1 by omega), show s + 1 - 2 = s - 1 by omega]
    · rw [if_neg h1, if_neg (show ¬ 2 ≤ s + 1 by omega)]
theorem ad_m2 {s i : Nat} : nI (s + i) - 2 + 1 = nI (s + (i + 1)) - 2 := by
  have e : nI (s + (i + 1)) = nI (s + i) + 1 := nI_succ (s + i)
  rw [e]
  grind
theorem ad_m2n {s i : Nat} (hs : s ≤ 8) (hi : i < 3) : ¬ nI s < nI (s + i) - 2 := by
  intro z
  have z := Int32.lt_iff_toInt_lt.mp z
  have e := pk_sub_toInt (a := s + i) (b := 2) (by omega) (by omega)
  have e : (nI (s + i) - 2).toInt = ((s + i : Nat) : Int) - 2 := e
  rw [nI_toInt (by omega), e] at z
  omega
theorem ad_m2p {s i : Nat} (h : 2 ≤ s + i) : nI (s + i) - 2 = nI (s + i - 2) := pk_sub (b := 2) h
section
variable {post : SX → Prop} {J2 J12 : Int32 → (Nat → Int32) → (Nat → Int32) → (Nat → Int32) → (Nat → Int32) → (Nat → Int32) → Prop} {p : Int32} {T L t s i n x : Nat} {w l : Nat → Nat} {W B a b c : Nat → Int32}
theorem ad_x42s (ok : ad_ok T L w l W B) (ht : t < T) (hs : s ≤ 2 * L) (hi : i < 3) (hA : 0 < t → ∀ r, r ≤ 2 * L → a ((t - 1) * 9 + r) = nI (ad_V (ad_pw p w) l (2 * L + 1) t r))
    (K : wX_carryOn_42 post J2 J12 (nI t) (nI s) (nI T) (nI L) p W B a b c n (nI (x + ad_cv (ad_pw p w) l (2 * L + 1) t s i)) (nI (s + (i + 1)) - 2)) :
    wX_carryOn_42 post J2 J12 (nI t) (nI s) (nI T) (nI L) p W B a b c (n + 1) (nI x) (nI (s + i) - 2) := by
  obtain ⟨hT, hL, h8, h3, h1, hW, hB⟩ := ok
  have Z : ad_cv (ad_pw p w) l (2 * L + 1) t s i = 0 → wX_carryOn_71 post J2 J12 (wX_carryOn_42 post J2 J12 (nI t) (nI s) (nI T) (nI L) p W B a b c n) (nI t) (nI s) (nI x) (nI (s + i) - 2) (nI T) (nI L) p W B a b c := by
    intro e
    rw [e, Nat.add_zero] at K
    exact br_t rfl (nm_r (Int32.add_zero _) (nm_r ad_m2 K))
  refine br_f (ad_m2n (by omega) hi) ?_
  by_cases t0 : t = 0
  · refine br_t (by rw [t0]; decide) (Z ?_)
    rw [t0]
    exact ad_cv_0
  refine br_f (nI_nle (by omega) (by omega)) ?_
  by_cases h2 : s + i < 2
  · exact br_t (pk_sneg (b := 2) (by omega) h2) (Z (if_neg (fun z => by omega)))
  refine br_f (by rw [ad_m2p (by omega)]; exact nI_pos (by omega)) ?_
  rw [ad_m2p (show 2 ≤ s + i by omega)] at Z ⊢
  refine ad_xld hB h3 (by omega) (by omega) ?_
  by_cases d : ad_ld l (s + i - 2) s = true
  · refine br_f (ad_ipos d) (br_f (by decide) ?_)
    rw [show ad_cv (ad_pw p w) l (2 * L + 1) t s i = ad_V (ad_pw p w) l (2 * L + 1) t (s + i - 2) from if_pos ⟨by omega, by omega, d⟩] at K
    have e1 : nI t - 1 = nI (t - 1) := pk_sub (b := 1) (by omega)
    rw [e1, ad_ix9, nI_clamp (by omega), hA (by omega) (s + i - 2) (by omega), ← ad_m2p (show 2 ≤ s + i by omega)]
    exact ⟨vp_in_nI (by omega) (by decide), nm_r (nI_add _ _) (nm_r ad_m2 K)⟩
  · exact br_t (ad_ineg d) (Z (if_neg (fun z => d z.2.2)))
theorem ad_x42 (ok : ad_ok T L w l W B) (ht : t < T) (hs : s ≤ 2 * L) (hA : 0 < t → ∀ r, r ≤ 2 * L → a ((t - 1) * 9 + r) = nI (ad_V (ad_pw p w) l (2 * L + 1) t r))
    (K : J12 (nI (s + 1)) W B (upd a (t * 9 + s) (nI ((x + ad_cv (ad_pw p w) l (2 * L + 1) t s 0 + ad_cv (ad_pw p w) l (2 * L + 1) t s 1 + ad_cv (ad_pw p w) l (2 * L + 1) t s 2) * ad_pw p w (t * 4 + ad_mk l s)))) b c) :
    wX_carryOn_42 post J2 J12 (nI t) (nI s) (nI T) (nI L) p W B a b c 4 (nI x) (nI s - 2) := by
  refine ad_x42s (i := 0) ok ht hs (by omega) hA (ad_x42s (i := 1) ok ht hs (by omega) hA (ad_x42s (i := 2) ok ht hs (by omega) hA ?_))
  obtain ⟨hT, hL, h8, h3, h1, hW, hB⟩ := ok
  have m3 := ad_mk_3 h3 s
  refine br_t (by rw [ad_m2p (show 2 ≤ s + (2 + 1) by omega)]; exact nI_lt (by omega) (by omega)) ?_
  refine ad_xmk hB (by omega) (ad_xwt hW (by omega) ?_)
  rw [ad_ix9, nI_clamp (by omega), pk_mul]
  exact ⟨vp_in_nI (by omega) (by decide), nm_e (nm_r (nI_1 s) K)⟩
/-- the rows before t, and of row t the places before s, stand -/
def ad_UA (w l : Nat → Nat) (L : Nat) (a : Nat → Int32) (t s : Nat) : Prop := (∀ u, u < t → ∀ r, r ≤ 2 * L → a (u * 9 + r) = nI (ad_V w l (2 * L + 1) (u + 1) r)) ∧ ∀ r, r < s → a (t * 9 + r) = nI (ad_V w l (2 * L + 1) (t + 1) r)
theorem ad_UA_p {w l : Nat → Nat} {L : Nat} {a : Nat → Int32} {t s v : Nat} (hL : L ≤ 4) (hs : s ≤ 2 * L) (h : ad_UA w l L a t s) (e : v = ad_V w l (2 * L + 1) (t + 1) s) : ad_UA w l L (upd a (t * 9 + s) (nI v)) t (s + 1) := by
  refine ⟨fun u hu r hr => ?_, fun r hr => ?_⟩
  · rw [pk_un (by omega)]
    exact h.1 u hu r hr
  · by_cases z : r = s
    · rw [z, pk_us, e]
    · rw [pk_un (by omega)]
      exact h.2 r (by omega)
theorem ad_UA_n {w l : Nat → Nat} {L : Nat} {a : Nat → Int32} {t : Nat} (h : ad_UA w l L a t (2 * L + 1)) : ad_UA w l L a (t + 1) 0 := by
  refine ⟨fun u hu r hr => ?_, fun r hr => absurd hr (Nat.not_lt_zero r)⟩
  by_cases z : u = t
  · rw [z]
    exact h.2 r (by omega)
  · exact h.1 u (by omega) r hr
theorem ad_x12 (ok : ad_ok T L w l W B) (ht : t < T) : ∀ (n s f : Nat) (a : Nat → Int32), s + n = 2 * L + 1 → n < f → ad_UA (ad_pw p w) l L a t s → (∀ a' : Nat → Int32, ad_UA (ad_pw p w) l L a' (t + 1) 0 → J2 (nI (t + 1)) W B a' b c) → wX_carryOn_12 post J2 (nI t) (nI T) (nI L) p f (nI s) W B a b c := by
  intro n
  have hT := ok.1
  have hL := ok.2.1
  induction n with
  | zero =>
    intro s f a h hf U K
    obtain ⟨f, rfl⟩ := ad_suc hf
    rw [show s = 2 * L + 1 by omega] at U ⊢
    exact br_t (by rw [ad_2]; exact nI_lt (by omega) (by omega)) (nm_r (nI_1 t) (K a (ad_UA_n U)))
  | succ n ih =>
    intro s f a h hf U K
    obtain ⟨f, rfl⟩ := ad_suc hf
    have hA : 0 < t → ∀ r, r ≤ 2 * L → a ((t - 1) * 9 + r) = nI (ad_V (ad_pw p w) l (2 * L + 1) t r) := fun h0 r hr => by
      have k := U.1 (t - 1) (by omega) r hr
      rw [show t - 1 + 1 = t by omega] at k
      exact k
    have G : ∀ x, x = (if t = 0 ∧ s ≤ 1 then 1 else 0) → wX_carryOn_42 post J2 (wX_carryOn_12 post J2 (nI t) (nI T) (nI L) p f) (nI t) (nI s) (nI T) (nI L) p W B a b c 4 (nI x) (nI s - 2) := fun x ex =>
      ad_x42 ok ht (by omega) hA (ih (s + 1) f _ (by omega) (by omega) (ad_UA_p hL (by omega) U (by rw [ex]; exact ad_cvV (by omega))) K)
    refine br_f (by rw [ad_2]; exact nI_nlt (by omega) (by omega)) ?_
    by_cases t0 : t = 0
    · refine br_t (by rw [t0]; rfl) ?_
      by_cases s1 : s ≤ 1
      · exact br_f (nI_nlt (a := 1) s1 (by decide)) (nm_e ⟨4, G 1 (if_pos ⟨t0, s1⟩).symm⟩)
      · exact br_t (nI_lt (a := 1) (by omega) (by omega)) (nm_e ⟨4, G 0 (if_neg (fun z => s1 z.2)).symm⟩)
    · exact br_f (nI_ne0 (by omega) (by omega)) (nm_e ⟨4, G 0 (if_neg (fun z => t0 z.1)).symm⟩)
theorem ad_x2 (ok : ad_ok T L w l W B) : ∀ (n t f : Nat) (a : Nat → Int32), t + n = T → n < f → ad_UA (ad_pw p w) l L a t 0 → (∀ a' : Nat → Int32, ad_UA (ad_pw p w) l L a' T 0 → post (nI T, nI L, p, W, B, a', b, c)) → wX_carryOn_2 post (nI T) (nI L) p f (nI t) W B a b c := by
  intro n
  have hT := ok.1
  induction n with
  | zero =>
    intro t f a h hf U K
    obtain ⟨f, rfl⟩ := ad_suc hf
    rw [show t = T by omega] at U ⊢
    exact br_t (nI_le (Nat.le_refl T) (by omega)) (K a U)
  | succ n ih =>
    intro t f a h hf U K
    obtain ⟨f, rfl⟩ := ad_suc hf
    refine br_f (nI_ge (by omega) (by omega)) ⟨2 * L + 2, ?_⟩
    exact ad_x12 ok (by omega) (2 * L + 1) 0 (2 * L + 2) a (by omega) (by omega) U (fun a' U' => ih (t + 1) f a' (by omega) (by omega) U' K)
theorem ad_xon (ok : ad_ok T L w l W B) (K : ∀ a' : Nat → Int32, (∀ t, t < T → ∀ r, r ≤ 2 * L → a' (t * 9 + r) = nI (ad_V (ad_pw p w) l (2 * L + 1) (t + 1) r)) → post (nI T, nI L, p, W, B, a', b, c)) : wpX_carryOn post (nI T, nI L, p, W, B, a, b, c) :=
  Exists.intro (T + 1) (ad_x2 ok T 0 (T + 1) a (by omega) (by omega) ⟨fun u hu => absurd hu (Nat.not_lt_zero u), fun r hr => absurd hr (Nat.not_lt_zero r)⟩ (fun a' U => K a' U.1))
end
section
variable {post : Int32 → SX → Prop} {p : Int32} {T L : Nat} {w l : Nat → Nat} {W B a b c : Nat → Int32}
theorem ad_x28 (ok : ad_ok T L w l W B) (h0 : 0 < T) (hA : ∀ r, r ≤ 2 * L → a ((T - 1) * 9 + r) = nI (ad_V (ad_pw p w) l (2 * L + 1) T r)) (K : post (nI (ad_O false (ad_pw p w) l L 0 T 0)) (nI T, nI L, p, W, B, a, b, c)) : ∀ (n s f : Nat), s + n = 2 * L + 1 → n < f → wX_sumAll_28 post (nI T) (nI L) p W B a b c f (nI (ad_sm (fun s => if 2 * L ≤ s + 1 then ad_V (ad_pw p w) l (2 * L + 1) T s else 0) s)) (nI s) := by
  intro n
  obtain ⟨hT, hL, h8, h3, h1, hW, hB⟩ := ok
  induction n with
  | zero =>
    intro s f h hf
    obtain ⟨f, rfl⟩ := ad_suc hf
    rw [show s = 2 * L + 1 by omega, ad_tot h1 h3]
    exact br_t (by rw [ad_2]; exact nI_lt (by omega) (by omega)) K
  | succ n ih =>
    intro s f h hf
    obtain ⟨f, rfl⟩ := ad_suc hf
    refine br_f (by rw [ad_2]; exact nI_nlt (by omega) (by omega)) ?_
    refine ad_xen hL (by omega) ?_
    have k := ih (s + 1) f (by omega) (by omega)
    by_cases e : 2 * L ≤ s + 1
    · rw [show ad_sm (fun s => if 2 * L ≤ s + 1 then ad_V (ad_pw p w) l (2 * L + 1) T s else 0) (s + 1) = ad_sm (fun s => if 2 * L ≤ s + 1 then ad_V (ad_pw p w) l (2 * L + 1) T s else 0) s + ad_V (ad_pw p w) l (2 * L + 1) T s from congrArg (fun k => _ + k) (if_pos e)] at k
      have e1 : nI T - 1 = nI (T - 1) := pk_sub (b := 1) h0
      rw [e1, ad_ix9, nI_clamp (by omega), hA s (by omega)]
      exact br_f (ad_ipos (decide_eq_true e)) ⟨vp_in_nI (by omega) (by decide), nm_r (nI_add _ _) (nm_r (nI_1 s) k)⟩
    · rw [show ad_sm (fun s => if 2 * L ≤ s + 1 then ad_V (ad_pw p w) l (2 * L + 1) T s else 0) (s + 1) = ad_sm (fun s => if 2 * L ≤ s + 1 then ad_V (ad_pw p w) l (2 * L + 1) T s else 0) s from congrArg (fun k => _ + k) (if_neg e)] at k
      exact br_t (ad_ineg (by rw [decide_eq_true_eq]; exact e)) (nm_r (Int32.add_zero _) (nm_r (nI_1 s) k))
theorem ad_xsum (ok : ad_ok T L w l W B) (K : ∀ a' : Nat → Int32, post (nI (ad_O false (ad_pw p w) l L 0 T 0)) (nI T, nI L, p, W, B, a', b, c)) : wpX_sumAll post (nI T, nI L, p, W, B, a, b, c) := by
  unfold wpX_sumAll
  dsimp only
  refine ad_xon ok (fun a' hA => ?_)
  have hT := ok.1
  have hL := ok.2.1
  by_cases t0 : T = 0
  · refine br_t (by rw [t0]; rfl) ?_
    have k := K a'
    rw [show ad_O false (ad_pw p w) l L 0 T 0 = if 2 * L ≤ 0 + 1 then 1 else 0 by rw [t0]; exact ad_O_0 _ _ _ _ _ _] at k
    by_cases l0 : L = 0
    · rw [if_pos (by omega)] at k
      exact br_t (by rw [l0]; rfl) k
    · rw [if_neg (by omega)] at k
      exact br_f (nI_ne0 (by omega) (by omega)) k
  · refine br_f (nI_ne0 (by omega) (by omega)) ⟨2 * L + 2, ?_⟩
    exact ad_x28 ok (by omega) (fun r hr => by
      have k := hA (T - 1) (by omega) r hr
      rw [show T - 1 + 1 = T by omega] at k
      exact k) (K a') (2 * L + 1) 0 (2 * L + 2) (by omega) (by omega)
theorem ad_xtot (ok : ad_ok T L w l W B) (K : ∀ a' : Nat → Int32, post (nI (ad_O false w l L 0 T 0)) (nI T, nI L, 0, W, B, a', b, c)) : wpX_total post (nI T, nI L, p, W, B, a, b, c) := by
  unfold wpX_total
  dsimp only
  refine ad_xsum ok (fun a' => ?_)
  rw [ad_pw_0]
  exact K a'
theorem ad_xpaths (ok : ad_ok T L w l W B) (K : ∀ a' : Nat → Int32, post (nI (ad_O false (fun _ => 1) l L 0 T 0)) (nI T, nI L, 1, W, B, a', b, c)) : wpX_paths post (nI T, nI L, p, W, B, a, b, c) := by
  unfold wpX_paths
  dsimp only
  refine ad_xsum ok (fun a' => ?_)
  rw [ad_pw_1]
  exact K a'
end
end
section
/-! the component's sums and greatest weights from the last frame back -/
theorem ad_en_n {v : Nat} (h : v < 2 ^ 31) : ¬ ad_en (some v) < 0 := nI_pos h
theorem ad_en_le {x : Option Nat} (h : ∀ u, x = some u → u < 2 ^ 31) {v : Nat} (hv : v < 2 ^ 31) {A D : Prop} (f : (∃ u, x = some u ∧ v ≤ u) → A) (g : (∀ u, x = some u → u < v) → D) : (nI v ≤ ad_en x → A) ∧ (¬ nI v ≤ ad_en x → D) := by
  cases x with
  | none =>
    refine br_f (fun z => ?_) (g (fun u e => nomatch e))
    have z := Int32.le_iff_toInt_le.mp z
    rw [nI_toInt hv, show (ad_en none).toInt = -1 by decide] at z
    omega
  | some u =>
    have hu := h u rfl
    by_cases le : v ≤ u
    · exact br_t (nI_le le hu) (f ⟨u, rfl, le⟩)
    · exact br_f (nI_ge (by omega) hv) (g (fun y e => by cases e; omega))
theorem ad_mx_l {x : Option Nat} {v : Nat} (h : ∃ u, x = some u ∧ v ≤ u) : ad_mx x v = x := by
  obtain ⟨u, rfl, le⟩ := h
  exact if_pos le
theorem ad_mx_g {x : Option Nat} {v : Nat} (h : ∀ u, x = some u → u < v) : ad_mx x v = some v := by
  cases x with
  | none => rfl
  | some u =>
    have := h u rfl
    exact if_neg (by omega)
theorem ad_mx_b {x : Option Nat} {v k : Nat} (hx : ∀ u, x = some u → u ≤ k) (hv : v ≤ k) : ∀ u, ad_mx x v = some u → u ≤ k := by
  intro u e
  cases x with
  | none =>
    cases e
    exact hv
  | some y =>
    have := hx y rfl
    have e : (if v ≤ y then some y else some v) = some u := e
    by_cases le : v ≤ y
    · rw [if_pos le] at e
      cases e
      exact this
    · rw [if_neg le] at e
      cases e
      exact hv
theorem ad_M3_b {w l : Nat → Nat} {L t s r n : Nat} {y : Option Nat} (h8 : ∀ j, w j ≤ 8) (h3 : ∀ j, l j ≤ 3) (h1 : ∀ j, j < L → 1 ≤ l j) (hn : n ≤ 5) (hy : ∀ u, y = some u → u ≤ 262144) : ∀ u, ad_M3 w l L t s (ad_M w l L n (t + 1)) y r = some u → u ≤ 262144 := by
  intro u e
  unfold ad_M3 at e
  by_cases d : r ≤ 2 * L ∧ ad_ld l s r = true
  · rw [if_pos d] at e
    cases em : ad_M w l L n (t + 1) r with
    | none =>
      rw [em] at e
      exact hy u e
    | some v =>
      rw [em] at e
      refine ad_mx_b hy ?_ u e
      have b1 := ad_M_8 h1 h3 h8 d.1 em
      have b2 : 8 ^ n ≤ 8 ^ 5 := Nat.pow_le_pow_right (by decide) hn
      have b3 : w (t * 4 + ad_mk l r) * v ≤ 8 * 8 ^ 5 := Nat.mul_le_mul (h8 _) (Nat.le_trans b1 b2)
      exact b3
  · rw [if_neg d] at e
    exact hy u e
section
variable {post : SX → Prop} {J7 J13 : Int32 → (Nat → Int32) → (Nat → Int32) → (Nat → Int32) → (Nat → Int32) → (Nat → Int32) → Prop} {T L t s n f x : Nat} {y : Option Nat} {w l : Nat → Nat} {W B a b c : Nat → Int32}
theorem ad_x205 (hL : L ≤ 4) (ht : t < 6) (hs : s ≤ 2 * L) {X Y : Int32} (K : J13 (nI (s + 1)) W B a (upd b (t * 9 + s) X) (upd c (t * 9 + s) Y)) : wX_carryBack_205 post J7 J13 (nI t) (nI s) X Y (nI T) (nI L) 0 W B a b c := by
  have hi : vp_in (nI t * 9 + nI s) 54 := by
    rw [ad_ix9]
    exact vp_in_nI (by omega) (by decide)
  have e : (nI t * 9 + nI s).toNatClampNeg = t * 9 + s := by
    rw [ad_ix9]
    exact nI_clamp (by omega)
  refine And.intro hi (nm_r (congrArg (fun k => upd b k X) e) ⟨hi, nm_r (congrArg (fun k => upd c k Y) e) (nm_r (nI_1 s) K)⟩)
/-- one place of the next frame -/
theorem ad_x75s (ok : ad_ok T L w l W B) (hn : t + 2 + n = T) (hs : s ≤ 2 * L) {r : Nat} (hr : r ≤ 2 * L) (hsr : s ≤ r) (hr2 : r ≤ s + 2) (hb : b ((t + 1) * 9 + r) = nI (ad_O false w l L (t + 2) n r)) (hc : c ((t + 1) * 9 + r) = ad_en (ad_M w l L n (t + 2) r)) (hy : ∀ u, y = some u → u ≤ 262144)
    (K : wX_carryBack_75 post J7 J13 (nI t) (nI s) (nI T) (nI L) 0 W B a b c f (nI (x + (if ad_ld l s r = true then w ((t + 1) * 4 + ad_mk l r) * ad_O false w l L (t + 2) n r else 0))) (ad_en (ad_M3 w l L (t + 1) s (ad_M w l L n (t + 2)) y r)) (nI (r + 1))) :
    wX_carryBack_75 post J7 J13 (nI t) (nI s) (nI T) (nI L) 0 W B a b c (f + 1) (nI x) (ad_en y) (nI r) := by
  obtain ⟨hT, hL, h8, h3, h1, hW, hB⟩ := ok
  have e1 : nI T - 1 = nI (T - 1) := pk_sub (b := 1) (by omega)
  have e2 : nI s + 2 = nI (s + 2) := nI_add s 2
  refine br_f (by rw [e1]; exact nI_ge (by omega) (by omega)) (br_f (by rw [e2]; exact nI_nlt (by omega) (by omega)) (br_f (by rw [ad_2]; exact nI_nlt (by omega) (by omega)) ?_))
  refine ad_xld hB h3 (by omega) (by omega) ?_
  by_cases d : ad_ld l s r = true
  · refine br_f (ad_ipos d) ?_
    rw [if_pos d] at K
    have m3 := ad_mk_3 h3 r
    refine nm_r (e' := nI ((t + 1) * 9 + r)) (by rw [nI_1]; exact ad_ix9 (t + 1) r) ?_
    refine ad_xmk hB (by omega) ?_
    rw [nI_1 t]
    refine ad_xwt hW (by omega) ?_
    rw [ad_pw_0, nI_clamp (show (t + 1) * 9 + r < 2 ^ 31 by omega), hb, hc, pk_mul]
    have hi : vp_in (nI ((t + 1) * 9 + r)) 54 := vp_in_nI (by omega) (by decide)
    refine ⟨hi, nm_r (nI_add _ _) ⟨hi, ?_⟩⟩
    have eM : ad_M3 w l L (t + 1) s (ad_M w l L n (t + 2)) y r = ad_mu y (ad_M w l L n (t + 2) r) (w ((t + 1) * 4 + ad_mk l r)) := if_pos ⟨hr, d⟩
    rw [eM] at K
    cases em : ad_M w l L n (t + 2) r with
    | none =>
      rw [em] at K
      exact br_t (by decide) (nm_r (nI_1 r) K)
    | some v =>
      rw [em] at K
      have b1 := ad_M_8 h1 h3 h8 hr em
      have b2 : 8 ^ n ≤ 8 ^ 5 := Nat.pow_le_pow_right (by decide) (by omega)
      have b3 : w ((t + 1) * 4 + ad_mk l r) * v ≤ 8 * 8 ^ 5 := Nat.mul_le_mul (h8 _) (Nat.le_trans b1 b2)
      have b4 : v ≤ 8 ^ 5 := Nat.le_trans b1 b2
      have K : wX_carryBack_75 post J7 J13 (nI t) (nI s) (nI T) (nI L) 0 W B a b c f (nI (x + w ((t + 1) * 4 + ad_mk l r) * ad_O false w l L (t + 2) n r)) (ad_en (ad_mx y (w ((t + 1) * 4 + ad_mk l r) * v))) (nI (r + 1)) := K
      refine br_f (ad_en_n (by omega)) ⟨hi, ?_⟩
      have ep : nI (w ((t + 1) * 4 + ad_mk l r)) * ad_en (some v) = nI (w ((t + 1) * 4 + ad_mk l r) * v) := pk_mul _ _
      rw [ep]
      refine ad_en_le (fun u e => by have := hy u e; omega) (by omega) (fun z => ?_) (fun z => ⟨hi, ?_⟩)
      · rw [ad_mx_l z] at K
        exact nm_r (nI_1 r) K
      · rw [ad_mx_g z] at K
        exact nm_e (nm_r (nI_1 r) K)
  · rw [if_neg d, Nat.add_zero, show ad_M3 w l L (t + 1) s (ad_M w l L n (t + 2)) y r = y from if_neg (fun z => d z.2)] at K
    exact br_t (ad_ineg d) (nm_r (nI_1 r) K)
/-- behind the last place -/
theorem ad_x75e (ok : ad_ok T L w l W B) (ht : t + 1 < T) (hs : s ≤ 2 * L) {r : Nat} (hr : 2 * L < r ∨ s + 2 < r) (hr9 : r < 99) (K : J13 (nI (s + 1)) W B a (upd b (t * 9 + s) (nI x)) (upd c (t * 9 + s) (ad_en y))) : wX_carryBack_75 post J7 J13 (nI t) (nI s) (nI T) (nI L) 0 W B a b c (f + 1) (nI x) (ad_en y) (nI r) := by
  obtain ⟨hT, hL, h8, h3, h1, hW, hB⟩ := ok
  have e1 : nI T - 1 = nI (T - 1) := pk_sub (b := 1) (by omega)
  have e2 : nI s + 2 = nI (s + 2) := nI_add s 2
  refine br_f (by rw [e1]; exact nI_ge (by omega) (by omega)) ?_
  by_cases h2 : s + 2 < r
  · exact br_t (by rw [e2]; exact nI_lt h2 (by omega)) (ad_x205 hL (by omega) hs K)
  · refine br_f (by rw [e2]; exact nI_nlt (by omega) (by omega)) (br_t (by rw [ad_2]; exact nI_lt (by omega) (by omega)) (ad_x205 hL (by omega) hs K))
theorem ad_M3_n {w l : Nat → Nat} {L t s r : Nat} {Z : Nat → Option Nat} {y : Option Nat} (h : 2 * L < r) : ad_M3 w l L t s Z y r = y := if_neg (fun z => by omega)
/-- a place of a frame that isn't the last -/
theorem ad_x75 (ok : ad_ok T L w l W B) (hn : t + 2 + n = T) (hs : s ≤ 2 * L) (hb : ∀ r, r ≤ 2 * L → b ((t + 1) * 9 + r) = nI (ad_O false w l L (t + 2) n r)) (hc : ∀ r, r ≤ 2 * L → c ((t + 1) * 9 + r) = ad_en (ad_M w l L n (t + 2) r))
    (K : J13 (nI (s + 1)) W B a (upd b (t * 9 + s) (nI (ad_O false w l L (t + 1) (n + 1) s))) (upd c (t * 9 + s) (ad_en (ad_M w l L (n + 1) (t + 1) s)))) :
    wX_carryBack_75 post J7 J13 (nI t) (nI s) (nI T) (nI L) 0 W B a b c 4 0 (-1) (nI s) := by
  have ok' := ok
  obtain ⟨hT, hL, h8, h3, h1, hW, hB⟩ := ok'
  have eO := ad_O_s (w := w) (t := t + 1) (n := n) h1 h3 hs (Or.inl rfl)
  rw [ad_3f (s := s) (by omega) (fun r hr z => if_neg (fun y => by have := ad_ld_r y; omega))] at eO
  rw [eO, ad_M_s] at K
  have y0 : ∀ u, (none : Option Nat) = some u → u ≤ 262144 := fun u e => nomatch e
  have y1 := ad_M3_b (t := t + 1) (s := s) (r := s) (n := n) h8 h3 h1 (by omega) y0
  have y2 := ad_M3_b (t := t + 1) (s := s) (r := s + 1) (n := n) h8 h3 h1 (by omega) y1
  refine ad_x75s (x := 0) (y := none) ok hn hs hs (by omega) (by omega) (hb s hs) (hc s hs) y0 ?_
  rw [Nat.zero_add]
  by_cases c1 : s + 1 < 2 * L + 1
  · rw [if_pos c1] at K
    refine ad_x75s ok hn hs (r := s + 1) (by omega) (by omega) (by omega) (hb _ (by omega)) (hc _ (by omega)) y1 ?_
    by_cases c2 : s + 2 < 2 * L + 1
    · rw [if_pos c2] at K
      refine ad_x75s ok hn hs (r := s + 2) (by omega) (by omega) (by omega) (hb _ (by omega)) (hc _ (by omega)) y2 ?_
      exact ad_x75e ok (by omega) hs (by omega) (by omega) K
    · rw [if_neg c2, Nat.add_zero, ad_M3_n (r := s + 2) (by omega)] at K
      exact ad_x75e ok (by omega) hs (by omega) (by omega) K
  · rw [if_neg c1, if_neg (show ¬ s + 2 < 2 * L + 1 by omega), Nat.add_zero, Nat.add_zero, ad_M3_n (r := s + 2) (by omega), ad_M3_n (r := s + 1) (by omega)] at K
    exact ad_x75e ok (by omega) hs (by omega) (by omega) K
/-- the rows from t on stand, and of the row before them the places before s -/
def ad_BA (w l : Nat → Nat) (L T : Nat) (b c : Nat → Int32) (t s : Nat) : Prop := (∀ u, t ≤ u → u < T → ∀ r, r ≤ 2 * L → b (u * 9 + r) = nI (ad_O false w l L (u + 1) (T - 1 - u) r) ∧ c (u * 9 + r) = ad_en (ad_M w l L (T - 1 - u) (u + 1) r)) ∧ ∀ k, k + 1 = t → ∀ r, r < s → b (k * 9 + r) = nI (ad_O false w l L (k + 1) (T - 1 - k) r) ∧ c (k * 9 + r) = ad_en (ad_M w l L (T - 1 - k) (k + 1) r)
theorem ad_BA_p (hL : L ≤ 4) (hs : s ≤ 2 * L) (h : ad_BA w l L T b c (t + 1) s) : ad_BA w l L T (upd b (t * 9 + s) (nI (ad_O false w l L (t + 1) (T - 1 - t) s))) (upd c (t * 9 + s) (ad_en (ad_M w l L (T - 1 - t) (t + 1) s))) (t + 1) (s + 1) := by
  refine ⟨fun u hu hT r hr => ?_, fun k hk r hr => ?_⟩
  · rw [pk_un (by omega), pk_un (by omega)]
    exact h.1 u hu hT r hr
  · have hk : k = t := by omega
    subst hk
    by_cases z : r = s
    · rw [z, pk_us, pk_us]
      exact ⟨rfl, rfl⟩
    · rw [pk_un (by omega), pk_un (by omega)]
      exact h.2 k rfl r (by omega)
theorem ad_BA_n (h : ad_BA w l L T b c (t + 1) (2 * L + 1)) : ad_BA w l L T b c t 0 := by
  refine ⟨fun u hu hT r hr => ?_, fun k _ r hr => absurd hr (Nat.not_lt_zero r)⟩
  by_cases z : u = t
  · rw [z]
    exact h.2 t rfl r (by omega)
  · exact h.1 u (by omega) hT r hr
theorem ad_x13 (ok : ad_ok T L w l W B) (ht : t < T) : ∀ (n s f : Nat) (b c : Nat → Int32), s + n = 2 * L + 1 → n < f → ad_BA w l L T b c (t + 1) s → (∀ b' c' : Nat → Int32, ad_BA w l L T b' c' t 0 → J7 (nI t - 1) W B a b' c') → wX_carryBack_13 post J7 (nI t) (nI T) (nI L) 0 f (nI s) W B a b c := by
  intro n
  have hT := ok.1
  have hL := ok.2.1
  have e1 : nI T - 1 = nI (T - 1) := pk_sub (b := 1) (by omega)
  induction n with
  | zero =>
    intro s f b c h hf U K
    obtain ⟨f, rfl⟩ := ad_suc hf
    rw [show s = 2 * L + 1 by omega] at U ⊢
    exact br_t (by rw [ad_2]; exact nI_lt (by omega) (by omega)) (nm_r (Int32.sub_eq_add_neg _ _).symm (K b c (ad_BA_n U)))
  | succ n ih =>
    intro s f b c h hf U K
    obtain ⟨f, rfl⟩ := ad_suc hf
    have k := ih (s + 1) f _ _ (by omega) (by omega) (ad_BA_p hL (by omega) U) K
    refine br_f (by rw [ad_2]; exact nI_nlt (by omega) (by omega)) ?_
    by_cases z : t + 1 = T
    · have c1 : nI t = nI T - 1 := by rw [e1, show T - 1 = t by omega]
      have c2 : nI T - 1 ≤ nI t := by rw [e1, show T - 1 = t by omega]; exact nI_le (Nat.le_refl t) (by omega)
      rw [show T - 1 - t = 0 by omega, ad_O_0, ad_M_0] at k
      refine br_t c1 (ad_xen hL (by omega) ?_)
      by_cases e : 2 * L ≤ s + 1
      · rw [if_pos e, if_pos e] at k
        refine br_f (ad_ipos (decide_eq_true e)) (br_t c1 (ad_xen hL (by omega) (br_f (ad_ipos (decide_eq_true e)) ⟨1, br_t c2 (ad_x205 hL (by omega) (by omega) k)⟩)))
      · rw [if_neg e, if_neg e] at k
        have ne : ¬ decide (2 * L ≤ s + 1) = true := by rw [decide_eq_true_eq]; exact e
        refine br_t (ad_ineg ne) (br_t c1 (ad_xen hL (by omega) (br_t (ad_ineg ne) ⟨1, br_t c2 (ad_x205 hL (by omega) (by omega) k)⟩)))
    · have c1 : ¬ nI t = nI T - 1 := by
        rw [e1]
        exact fun y => z (by have := (nI_eq (by omega) (by omega)).mp y; omega)
      obtain ⟨m, hm⟩ : ∃ m, t + 2 + m = T := ⟨T - 2 - t, by omega⟩
      rw [show T - 1 - t = m + 1 by omega] at k
      have H := fun r hr => U.1 (t + 1) (Nat.le_refl _) (by omega) r hr
      rw [show T - 1 - (t + 1) = m by omega] at H
      exact br_f c1 (br_f c1 ⟨4, ad_x75 ok hm (by omega) (fun r hr => (H r hr).1) (fun r hr => (H r hr).2) k⟩)
theorem ad_x7 (ok : ad_ok T L w l W B) : ∀ (n f : Nat) (b c : Nat → Int32), n ≤ T → n < f → ad_BA w l L T b c n 0 → (∀ b' c' : Nat → Int32, ad_BA w l L T b' c' 0 0 → post (nI T, nI L, 0, W, B, a, b', c')) → wX_carryBack_7 post (nI T) (nI L) 0 f (nI n - 1) W B a b c := by
  intro n
  have hT := ok.1
  induction n with
  | zero =>
    intro f b c h hf U K
    obtain ⟨f, rfl⟩ := ad_suc hf
    exact br_t (by decide) (K b c U)
  | succ n ih =>
    intro f b c h hf U K
    obtain ⟨f, rfl⟩ := ad_suc hf
    rw [nI_pred]
    refine br_f (nI_pos (by omega)) ⟨2 * L + 2, ?_⟩
    exact ad_x13 ok (by omega) (2 * L + 1) 0 (2 * L + 2) b c (by omega) (by omega) U (fun b' c' U' => ih f b' c' (by omega) (by omega) U' K)
theorem ad_xback (ok : ad_ok T L w l W B) (K : ∀ b' c' : Nat → Int32, (∀ u, u < T → ∀ r, r ≤ 2 * L → b' (u * 9 + r) = nI (ad_O false w l L (u + 1) (T - 1 - u) r) ∧ c' (u * 9 + r) = ad_en (ad_M w l L (T - 1 - u) (u + 1) r)) → post (nI T, nI L, 0, W, B, a, b', c')) : wpX_carryBack post (nI T, nI L, 0, W, B, a, b, c) := by
  unfold wpX_carryBack
  dsimp only
  exact nm_e ⟨T + 1, ad_x7 ok T (T + 1) b c (Nat.le_refl T) (by omega) ⟨fun u h1 h2 => absurd h2 (by omega), fun k _ r hr => absurd hr (Nat.not_lt_zero r)⟩ (fun b' c' U => K b' c' (fun u hu => U.1 u (Nat.zero_le u) hu))⟩
end
end
section
/-! the component: through, frame sums, the beginning of what is read -/
section
variable {post : Int32 → SX → Prop} {q : Int32 → Prop} {F M p : Int32} {T L t m : Nat} {w l : Nat → Nat} {W B a b c : Nat → Int32}
theorem ad_x35 (ok : ad_ok T L w l W B) (ht : t < T) (hm : m ≤ 3) (hA : ∀ r, r ≤ 2 * L → a (t * 9 + r) = nI (ad_V w l (2 * L + 1) (t + 1) r)) (hb : ∀ r, r ≤ 2 * L → b (t * 9 + r) = nI (ad_O false w l L (t + 1) (T - 1 - t) r)) (K : post (nI (ad_sm (ad_Fh w l L T t m) (4 ^ T))) (nI T, nI L, p, W, B, a, b, c)) : ∀ (n s f : Nat), s + n = 2 * L + 1 → n < f → wX_through_35 post (nI t) (nI m) (nI T) (nI L) p W B a b c f (nI (ad_sm (fun s => if ad_mk l s = m then ad_V w l (2 * L + 1) (t + 1) s * ad_O false w l L (t + 1) (T - 1 - t) s else 0) s)) (nI s) := by
  intro n
  obtain ⟨hT, hL, h8, h3, h1, hW, hB⟩ := ok
  induction n with
  | zero =>
    intro s f h hf
    obtain ⟨f, rfl⟩ := ad_suc hf
    have e : ad_sm (fun s => if ad_mk l s = m then ad_V w l (2 * L + 1) (t + 1) s * ad_O false w l L (t + 1) (T - 1 - t) s else 0) (2 * L + 1) = ad_sm (ad_Fh w l L T t m) (4 ^ T) := by
      rw [ad_thr h1 h3, show t + 1 + (T - 1 - t) = T by omega]
      rfl
    rw [show s = 2 * L + 1 by omega, e]
    exact br_t (by rw [ad_2]; exact nI_lt (by omega) (by omega)) K
  | succ n ih =>
    intro s f h hf
    obtain ⟨f, rfl⟩ := ad_suc hf
    refine br_f (by rw [ad_2]; exact nI_nlt (by omega) (by omega)) ?_
    refine ad_xmk hB (by omega) ?_
    have m3 := ad_mk_3 h3 s
    have k := ih (s + 1) f (by omega) (by omega)
    by_cases e : ad_mk l s = m
    · rw [show ad_sm (fun s => if ad_mk l s = m then ad_V w l (2 * L + 1) (t + 1) s * ad_O false w l L (t + 1) (T - 1 - t) s else 0) (s + 1) = ad_sm (fun s => if ad_mk l s = m then ad_V w l (2 * L + 1) (t + 1) s * ad_O false w l L (t + 1) (T - 1 - t) s else 0) s + ad_V w l (2 * L + 1) (t + 1) s * ad_O false w l L (t + 1) (T - 1 - t) s from congrArg (fun k => _ + k) (if_pos e)] at k
      rw [ad_ix9, nI_clamp (show t * 9 + s < 2 ^ 31 by omega), hA s (by omega), hb s (by omega), pk_mul]
      have hi : vp_in (nI (t * 9 + s)) 54 := vp_in_nI (by omega) (by decide)
      exact br_t (by rw [e]) ⟨hi, hi, nm_r (nI_add _ _) (nm_r (nI_1 s) k)⟩
    · rw [show ad_sm (fun s => if ad_mk l s = m then ad_V w l (2 * L + 1) (t + 1) s * ad_O false w l L (t + 1) (T - 1 - t) s else 0) (s + 1) = ad_sm (fun s => if ad_mk l s = m then ad_V w l (2 * L + 1) (t + 1) s * ad_O false w l L (t + 1) (T - 1 - t) s else 0) s from congrArg (fun k => _ + k) (if_neg e)] at k
      exact br_f (fun z => e ((nI_eq (by omega) (by omega)).mp z)) (nm_r (Int32.add_zero _) (nm_r (nI_1 s) k))
theorem ad_xfs4 (hW : ∀ j, W j = nI (w j)) (ht : t < 6) (K : q (nI (ad_fs w t))) : ∀ (n k f : Nat), k + n = 4 → n < f → wX_frameSum_4 q (nI t) F M p W B a b c f (nI (ad_sm (fun m => w (t * 4 + m)) k)) (nI k) := by
  intro n
  induction n with
  | zero =>
    intro k f h hf
    obtain ⟨f, rfl⟩ := ad_suc hf
    rw [show k = 4 by omega]
    exact br_t (nI_le (a := 4) (Nat.le_refl 4) (by decide)) K
  | succ n ih =>
    intro k f h hf
    obtain ⟨f, rfl⟩ := ad_suc hf
    refine br_f (nI_ge (b := 4) (by omega) (by decide)) ?_
    rw [ad_ixm, nI_clamp (by omega), hW]
    exact ⟨vp_in_nI (by omega) (by decide), nm_r (nI_add _ _) (nm_r (nI_1 k) (ih (k + 1) f (by omega) (by omega)))⟩
theorem ad_xfs (hW : ∀ j, W j = nI (w j)) (ht : t < 6) (K : q (nI (ad_fs w t))) : wpX_frameSum q (F, M, p, W, B, a, b, c) (nI t) :=
  Exists.intro 5 (ad_xfs4 hW ht K 4 0 5 rfl (by decide))
theorem ad_xe4 (hW : ∀ j, W j = nI (w j)) (hT : T ≤ 6) : ∀ (n t f x : Nat), t + n = T → n < f → q (nI (x * ad_E w t n)) → wX_everything_4 q (nI T) M p W B a b c f (nI x) (nI t) := by
  intro n
  induction n with
  | zero =>
    intro t f x h hf K
    obtain ⟨f, rfl⟩ := ad_suc hf
    rw [show x * ad_E w t 0 = x from Nat.mul_one x] at K
    exact br_t (nI_le (by omega) (by omega)) K
  | succ n ih =>
    intro t f x h hf K
    obtain ⟨f, rfl⟩ := ad_suc hf
    refine br_f (nI_ge (by omega) (by omega)) (ad_xfs hW (by omega) ?_)
    refine nm_r (pk_mul _ _) (nm_r (nI_1 t) (ih (t + 1) f _ (by omega) (by omega) ?_))
    rw [Nat.mul_assoc]
    exact K
theorem ad_xev (ok : ad_ok T L w l W B) (K : q (nI (ad_E w 0 T))) : wpX_everything q (nI T, M, p, W, B, a, b, c) :=
  Exists.intro (T + 1) (ad_xe4 ok.2.2.2.2.2.1 ok.1 T 0 (T + 1) 1 (by omega) (by omega) (by rw [Nat.one_mul]; exact K))
variable {J41 : Int32 → Int32 → Prop} {x1 x2 : Int32} {x y i : Nat}
theorem ad_x158 (hW : ∀ j, W j = nI (w j)) (hT : T ≤ 6) : ∀ (n u f x : Nat), u + n = T → n < f → J41 (nI (y + x * ad_E w u n)) (nI (t + 1)) → wX_prefix_158 post J41 x1 x2 (nI y) (nI t) (nI T) M p W B a b c f (nI x) (nI u) := by
  intro n
  induction n with
  | zero =>
    intro u f x h hf K
    obtain ⟨f, rfl⟩ := ad_suc hf
    rw [show x * ad_E w u 0 = x from Nat.mul_one x] at K
    exact br_t (nI_le (by omega) (by omega)) (nm_r (nI_add _ _) (nm_r (nI_1 t) K))
  | succ n ih =>
    intro u f x h hf K
    obtain ⟨f, rfl⟩ := ad_suc hf
    refine br_f (nI_ge (by omega) (by omega)) (ad_xfs hW (by omega) ?_)
    refine nm_r (pk_mul _ _) (nm_r (nI_1 u) (ih (u + 1) f _ (by omega) (by omega) ?_))
    rw [Nat.mul_assoc]
    exact K
theorem ad_m2m {s i : Nat} (hs : 0 < s) (hs8 : s ≤ 8) (hi : i < 2) : ¬ nI s ≤ nI (s + i) - 2 := by
  intro z
  have z := Int32.le_iff_toInt_le.mp z
  have e := pk_sub_toInt (a := s + i) (b := 2) (by omega) (by omega)
  have e : (nI (s + i) - 2).toInt = ((s + i : Nat) : Int) - 2 := e
  rw [nI_toInt (by omega), e] at z
  omega
theorem ad_x72s (ok : ad_ok T L w l W B) (ht : t < T) {s : Nat} (hs0 : 0 < s) (hs : s ≤ 2 * L) (hi : i < 2) (hA : 0 < t → ∀ r, r ≤ 2 * L → a ((t - 1) * 9 + r) = nI (ad_V w l (2 * L + 1) t r)) {n : Nat}
    (K : wX_prefix_72 post J41 (nI s) x2 (nI y) (nI t) (nI T) (nI L) p W B a b c n (nI (x + ad_cv w l (2 * L + 1) t s i)) (nI (s + (i + 1)) - 2)) :
    wX_prefix_72 post J41 (nI s) x2 (nI y) (nI t) (nI T) (nI L) p W B a b c (n + 1) (nI x) (nI (s + i) - 2) := by
  obtain ⟨hT, hL, h8, h3, h1, hW, hB⟩ := ok
  have Z : ad_cv w l (2 * L + 1) t s i = 0 → wX_prefix_102 post J41 (wX_prefix_72 post J41 (nI s) x2 (nI y) (nI t) (nI T) (nI L) p W B a b c n) (nI s) x2 (nI y) (nI t) (nI x) (nI (s + i) - 2) (nI T) (nI L) p W B a b c := by
    intro e
    rw [e, Nat.add_zero] at K
    exact br_t rfl (nm_r (Int32.add_zero _) (nm_r ad_m2 K))
  refine br_f (ad_m2m hs0 (by omega) hi) ?_
  by_cases t0 : t = 0
  · refine br_t (by rw [t0]; decide) (Z ?_)
    rw [t0]
    exact ad_cv_0
  refine br_f (nI_nle (by omega) (by omega)) ?_
  by_cases h2 : s + i < 2
  · exact br_t (pk_sneg (b := 2) (by omega) h2) (Z (if_neg (fun z => by omega)))
  refine br_f (by rw [ad_m2p (by omega)]; exact nI_pos (by omega)) ?_
  rw [ad_m2p (show 2 ≤ s + i by omega)] at Z ⊢
  refine ad_xld hB h3 (by omega) (by omega) ?_
  by_cases d : ad_ld l (s + i - 2) s = true
  · refine br_f (ad_ipos d) (br_f (by decide) ?_)
    rw [show ad_cv w l (2 * L + 1) t s i = ad_V w l (2 * L + 1) t (s + i - 2) from if_pos ⟨by omega, by omega, d⟩] at K
    have e1 : nI t - 1 = nI (t - 1) := pk_sub (b := 1) (by omega)
    rw [e1, ad_ix9, nI_clamp (by omega), hA (by omega) (s + i - 2) (by omega), ← ad_m2p (show 2 ≤ s + i by omega)]
    exact ⟨vp_in_nI (by omega) (by decide), nm_r (nI_add _ _) (nm_r ad_m2 K)⟩
  · exact br_t (ad_ineg d) (Z (if_neg (fun z => d z.2.2)))
theorem ad_x72 (ok : ad_ok T L w l W B) (ht : t < T) {s : Nat} (hs0 : 0 < s) (hs : s ≤ 2 * L) (hp : p = 0) (hm : m ≤ 3) (hA : 0 < t → ∀ r, r ≤ 2 * L → a ((t - 1) * 9 + r) = nI (ad_V w l (2 * L + 1) t r))
    (K : J41 (nI (y + (x + ad_cv w l (2 * L + 1) t s 0 + ad_cv w l (2 * L + 1) t s 1) * w (t * 4 + m) * ad_E w (t + 1) (T - 1 - t))) (nI (t + 1))) :
    wX_prefix_72 post J41 (nI s) (nI m) (nI y) (nI t) (nI T) (nI L) p W B a b c 3 (nI x) (nI s - 2) := by
  refine ad_x72s (i := 0) ok ht hs0 hs (by omega) hA (ad_x72s (i := 1) ok ht hs0 hs (by omega) hA ?_)
  obtain ⟨hT, hL, h8, h3, h1, hW, hB⟩ := ok
  refine br_t (by rw [ad_m2p (show 2 ≤ s + (1 + 1) by omega)]; exact nI_le (by omega) (by omega)) ?_
  refine ad_xwt hW (by omega) ?_
  rw [hp, ad_pw_0]
  refine nm_r (pk_mul _ _) (nm_r (nI_1 t) ⟨T + 1, ?_⟩)
  exact ad_x158 hW hT (T - 1 - t) (t + 1) (T + 1) _ (by omega) (by omega) K
/-- the sum of what comes to the last mark for the first time -/
theorem ad_cvF (hL : 0 < L) : (if t = 0 ∧ 2 * L - 1 = 1 then 1 else 0) + ad_cv w l (2 * L + 1) t (2 * L - 1) 0 + ad_cv w l (2 * L + 1) t (2 * L - 1) 1 = ad_F w l L t := by
  unfold ad_F
  by_cases h : t = 0
  · subst h
    rw [ad_cv_0, ad_cv_0, ad_sm_v0 (by omega)]
    by_cases h1 : 2 * L - 1 = 1
    · rw [if_pos ⟨rfl, h1⟩, if_pos (by omega)]
    · rw [if_neg (fun z => h1 z.2), if_neg (by omega)]
  · have e := ad_3b (f := fun r => if ad_ld l r (2 * L - 1) = true then ad_V w l (2 * L + 1) t r else 0) (s := 2 * L - 1) (N := 2 * L - 1 + 1) (by omega) (fun r hr z => if_neg (fun y => by have := ad_ld_r y; omega))
    have e : ad_sm (fun r => if ad_ld l r (2 * L - 1) = true then ad_V w l (2 * L + 1) t r else 0) (2 * L - 1) + (if ad_ld l (2 * L - 1) (2 * L - 1) = true then ad_V w l (2 * L + 1) t (2 * L - 1) else 0) = _ := e
    have e := Nat.add_right_cancel e
    rw [e, if_neg (fun z => h z.1), ad_cv_t (by omega), ad_cv_t (by omega), Nat.zero_add, Nat.add_zero, if_pos (show 2 ≤ 2 * L - 1 + 1 by omega), if_pos (show 1 ≤ 2 * L - 1 by omega), show 2 * L - 1 + 1 - 2 = 2 * L - 1 - 1 by omega]
theorem ad_x41 (ok : ad_ok T L w l W B) (hL0 : 0 < L) (hp : p = 0) (hA : ∀ t, t < T → ∀ r, r ≤ 2 * L → a (t * 9 + r) = nI (ad_V w l (2 * L + 1) (t + 1) r)) (K : post (nI (ad_O true w l L 0 T 0)) (nI T, nI L, p, W, B, a, b, c)) : ∀ (n t f : Nat), t + n = T → n < f → wX_prefix_41 post (nI (2 * L - 1)) (nI (ad_mk l (2 * L - 1))) (nI T) (nI L) p W B a b c f (nI (ad_sm (fun u => ad_F w l L u * w (u * 4 + ad_mk l (2 * L - 1)) * ad_E w (u + 1) (T - 1 - u)) t)) (nI t) := by
  intro n
  have hT := ok.1
  have hL := ok.2.1
  have h3 := ok.2.2.2.1
  have h1 := ok.2.2.2.2.1
  have m3 := ad_mk_3 h3 (2 * L - 1)
  induction n with
  | zero =>
    intro t f h hf
    obtain ⟨f, rfl⟩ := ad_suc hf
    rw [show t = T by omega, ad_pf hL0 h1 h3]
    exact br_t (nI_le (Nat.le_refl T) (by omega)) K
  | succ n ih =>
    intro t f h hf
    obtain ⟨f, rfl⟩ := ad_suc hf
    have hA' : 0 < t → ∀ r, r ≤ 2 * L → a ((t - 1) * 9 + r) = nI (ad_V w l (2 * L + 1) t r) := fun h0 r hr => by
      have k := hA (t - 1) (by omega) r hr
      rw [show t - 1 + 1 = t by omega] at k
      exact k
    have k := ih (t + 1) f (by omega) (by omega)
    have G : ∀ x, x = (if t = 0 ∧ 2 * L - 1 = 1 then 1 else 0) → wX_prefix_72 post (wX_prefix_41 post (nI (2 * L - 1)) (nI (ad_mk l (2 * L - 1))) (nI T) (nI L) p W B a b c f) (nI (2 * L - 1)) (nI (ad_mk l (2 * L - 1))) (nI (ad_sm (fun u => ad_F w l L u * w (u * 4 + ad_mk l (2 * L - 1)) * ad_E w (u + 1) (T - 1 - u)) t)) (nI t) (nI T) (nI L) p W B a b c 3 (nI x) (nI (2 * L - 1) - 2) := fun x ex => by
      refine ad_x72 ok (by omega) (by omega) (by omega) hp m3 hA' ?_
      rw [ex, ad_cvF hL0]
      exact k
    refine br_f (nI_ge (by omega) (by omega)) ?_
    by_cases t0 : t = 0
    · refine br_t (by rw [t0]; rfl) ?_
      by_cases s1 : 2 * L - 1 = 1
      · exact br_t (by rw [s1]; rfl) (nm_e ⟨3, G 1 (if_pos ⟨t0, s1⟩).symm⟩)
      · exact br_f (fun z => s1 ((nI_eq (b := 1) (by omega) (by omega)).mp z)) (nm_e ⟨3, G 0 (if_neg (fun z => s1 z.2)).symm⟩)
    · exact br_f (nI_ne0 (by omega) (by omega)) (nm_e ⟨3, G 0 (if_neg (fun z => t0 z.1)).symm⟩)
theorem ad_xpre (ok : ad_ok T L w l W B) (K : ∀ (p' : Int32) (a' : Nat → Int32), post (nI (ad_O true w l L 0 T 0)) (nI T, nI L, p', W, B, a', b, c)) : wpX_prefix post (nI T, nI L, p, W, B, a, b, c) := by
  unfold wpX_prefix
  dsimp only
  have hT := ok.1
  have hL := ok.2.1
  by_cases l0 : L = 0
  · refine br_t (by rw [l0]; rfl) ?_
    refine ad_xev ok ?_
    have k := K p a
    rw [ad_Ot (by omega)] at k
    exact k
  · refine br_f (nI_ne0 (by omega) (by omega)) ?_
    refine ad_xon ok (fun a' hA => ?_)
    rw [ad_pw_0] at hA
    refine nm_r (e' := nI (2 * L - 1)) (by rw [ad_2]; exact pk_sub (b := 1) (by omega)) ?_
    refine ad_xmk ok.2.2.2.2.2.2 (by omega) ⟨T + 1, ?_⟩
    exact ad_x41 ok (by omega) rfl hA (K 0 a') T 0 (T + 1) (by omega) (by omega)
end
end
section
/-! the component's greatest weight, and the first best path -/
section
variable {post : Int32 → SX → Prop} {q : Int32 → Prop} {F M p : Int32} {T L : Nat} {w l : Nat → Nat} {W B a b c : Nat → Int32}
theorem ad_xbf (ok : ad_ok T L w l W B) {s : Nat} {x : Option Nat} (hs : s ≤ 2 * L) (hc : c s = ad_en x) (hb : ∀ u, x = some u → u < 2 ^ 31) (K : q (ad_en (ad_mu none x (w (0 * 4 + ad_mk l s))))) : wpX_bestFrom q (F, M, 0, W, B, a, b, c) (nI s) := by
  obtain ⟨hT, hL, h8, h3, h1, hW, hB⟩ := ok
  have m3 := ad_mk_3 h3 s
  have hi : vp_in (nI s) 54 := vp_in_nI (by omega) (by decide)
  unfold wpX_bestFrom
  dsimp only
  refine ad_xmk hB (by omega) ?_
  rw [nI_clamp (show s < 2 ^ 31 by omega), hc]
  refine ⟨hi, ?_⟩
  cases x with
  | none => exact br_f (by decide) K
  | some v =>
    refine br_t (nI_pos' (hb v rfl)) ⟨hi, ad_xwt (t := 0) hW (by omega) ?_⟩
    rw [ad_pw_0]
    have e : ad_en (some v) * nI (w (0 * 4 + ad_mk l s)) = nI (w (0 * 4 + ad_mk l s) * v) := by
      rw [Nat.mul_comm _ v]
      exact pk_mul _ _
    rw [e]
    exact K
theorem ad_x51 {x y : Option Nat} {k : Nat} (hy : ∀ u, y = some u → u < 2 ^ 31) (hx : ∀ u, x = some u → k * u < 2 ^ 31) (K : post (ad_en (ad_mu y x k)) (F, M, p, W, B, a, b, c)) : wX_greatest_51 post (ad_en y) (ad_en (ad_mu none x k)) F M p W B a b c := by
  cases x with
  | none =>
    refine br_t ?_ K
    show (-1 : Int32) ≤ ad_en y
    cases y with
    | none => decide
    | some u => exact Int32.le_trans (show (-1 : Int32) ≤ 0 by decide) (nI_pos' (hy u rfl))
  | some v =>
    have K : post (ad_en (ad_mx y (k * v))) (F, M, p, W, B, a, b, c) := K
    refine ad_en_le hy (hx v rfl) (fun z => ?_) (fun z => ?_)
    · rw [ad_mx_l z] at K
      exact K
    · rw [ad_mx_g z] at K
      exact K
theorem ad_xgr (ok : ad_ok T L w l W B) (K : ∀ b' c' : Nat → Int32, (∀ u, u < T → ∀ r, r ≤ 2 * L → c' (u * 9 + r) = ad_en (ad_M w l L (T - 1 - u) (u + 1) r)) → post (ad_en (ad_M w l L T 0 0)) (nI T, nI L, 0, W, B, a, b', c')) : wpX_greatest post (nI T, nI L, p, W, B, a, b, c) := by
  unfold wpX_greatest
  dsimp only
  have ok' := ok
  obtain ⟨hT, hL, h8, h3, h1, hW, hB⟩ := ok'
  by_cases t0 : T = 0
  · subst t0
    have k := K b c (fun u hu => absurd hu (Nat.not_lt_zero u))
    rw [ad_M_0] at k
    refine br_t rfl ?_
    by_cases l0 : L = 0
    · rw [if_pos (by omega)] at k
      exact br_t (by rw [l0]; rfl) k
    · rw [if_neg (by omega)] at k
      exact br_f (nI_ne0 (by omega) (by omega)) k
  · obtain ⟨n, rfl⟩ : ∃ n, T = n + 1 := ⟨T - 1, by omega⟩
    refine br_f (nI_ne0 (by omega) (by omega)) ?_
    refine ad_xback ok (fun b' c' H => ?_)
    have k := K b' c' (fun u hu r hr => (H u hu r hr).2)
    have H0 := fun r hr => (H 0 (by omega) r hr).2
    have hb : ∀ r, r ≤ 2 * L → ∀ u, ad_M w l L n 1 r = some u → u ≤ 32768 := fun r hr u e => by
      have b1 := ad_M_8 h1 h3 h8 hr e
      have b2 : 8 ^ n ≤ 8 ^ 5 := Nat.pow_le_pow_right (by decide) (by omega)
      exact Nat.le_trans b1 b2
    have hb2 : ∀ r, r ≤ 2 * L → ∀ u, ad_M w l L n 1 r = some u → w (0 * 4 + ad_mk l r) * u < 2 ^ 31 := fun r hr u e => by
      have b1 := hb r hr u e
      have b2 : w (0 * 4 + ad_mk l r) * u ≤ 8 * 32768 := Nat.mul_le_mul (h8 _) b1
      omega
    have e2 : ad_M w l L (n + 1) 0 0 = ad_M3 w l L 0 0 (ad_M w l L n 1) (ad_mu none (ad_M w l L n 1 0) (w (0 * 4 + ad_mk l 0))) 1 := by
      rw [ad_M_s]
      have z2 : ∀ y, ad_M3 w l L 0 0 (ad_M w l L n 1) y 2 = y := fun y => if_neg (fun z => by have := ad_ld_i.mp z.2; omega)
      have z0 : ad_M3 w l L 0 0 (ad_M w l L n 1) none 0 = ad_mu none (ad_M w l L n 1 0) (w (0 * 4 + ad_mk l 0)) := if_pos ⟨by omega, ad_ld_i.mpr (Or.inl rfl)⟩
      rw [Nat.zero_add, z2, z0]
    rw [e2] at k
    have hc0 : ∀ r, r ≤ 2 * L → c' r = ad_en (ad_M w l L n 1 r) := fun r hr => by
      have z := H0 r hr
      rw [Nat.zero_mul, Nat.zero_add] at z
      exact z
    have g0 : ∀ u, ad_mu none (ad_M w l L n 1 0) (w (0 * 4 + ad_mk l 0)) = some u → u < 2 ^ 31 := fun u e => by
      cases em : ad_M w l L n 1 0 with
      | none =>
        rw [em] at e
        exact nomatch e
      | some v =>
        rw [em] at e
        have e : some (w (0 * 4 + ad_mk l 0) * v) = some u := e
        cases e
        exact hb2 0 (by omega) v em
    refine ad_xbf (s := 0) ok (by omega) (hc0 0 (by omega)) (fun u e => by have := hb 0 (by omega) u e; omega) ?_
    by_cases l0 : L = 0
    · rw [show ad_M3 w l L 0 0 (ad_M w l L n 1) (ad_mu none (ad_M w l L n 1 0) (w (0 * 4 + ad_mk l 0))) 1 = ad_mu none (ad_M w l L n 1 0) (w (0 * 4 + ad_mk l 0)) from if_neg (fun z => by omega)] at k
      refine br_t (show nI L ≤ 0 by rw [l0]; decide) ?_
      exact ad_x51 (x := none) (k := 0) g0 (fun u e => nomatch e) k
    · rw [show ad_M3 w l L 0 0 (ad_M w l L n 1) (ad_mu none (ad_M w l L n 1 0) (w (0 * 4 + ad_mk l 0))) 1 = ad_mu (ad_mu none (ad_M w l L n 1 0) (w (0 * 4 + ad_mk l 0))) (ad_M w l L n 1 1) (w (0 * 4 + ad_mk l 1)) from if_pos ⟨by omega, ad_ld_i.mpr (Or.inr (Or.inl rfl))⟩] at k
      refine br_f (nI_nle (by omega) (by omega)) ?_
      refine ad_xbf (s := 1) ok (by omega) (hc0 1 (by omega)) (fun u e => by have := hb 1 (by omega) u e; omega) ?_
      exact ad_x51 g0 (hb2 1 (by omega)) k
theorem ad_xbest (ok : ad_ok T L w l W B) (K : ∀ b' c' : Nat → Int32, post (nI ((ad_M w l L T 0 0).getD 0)) (nI T, nI L, 0, W, B, a, b', c')) : wpX_best post (nI T, nI L, p, W, B, a, b, c) := by
  unfold wpX_best
  dsimp only
  refine ad_xgr ok (fun b' c' _ => ?_)
  have k := K b' c'
  cases e : ad_M w l L T 0 0 with
  | none =>
    rw [e] at k
    exact br_f (by decide) k
  | some v =>
    rw [e] at k
    have b1 := ad_M_8 ok.2.2.2.2.1 ok.2.2.2.1 ok.2.2.1 (by omega) e
    have b2 : 8 ^ T ≤ 8 ^ 6 := Nat.pow_le_pow_right (by decide) ok.1
    have b3 : v ≤ 8 ^ 6 := Nat.le_trans b1 b2
    exact br_t (nI_pos' (by omega)) k
/-! the walk along the first best path -/
def ad_nb (l : Nat → Nat) (o : Option Nat) (s : Nat) : Option Nat := match o with
  | none => some s
  | some r => if ad_mk l r ≤ ad_mk l s then some r else some s
def ad_kp (z : Bool) (x : Option Nat) (k G : Nat) : Bool := match x with
  | none => false
  | some v => z && decide (k * v = G)
variable {J29 : Int32 → Int32 → Int32 → Prop} {J41 : Int32 → Int32 → Prop} {x1 x2 x3 x4 x5 : Int32} {o : Option Nat} {s so u G : Nat}
theorem ad_x136 (hB : ∀ j, B j = nI (l j)) (h3 : ∀ j, l j ≤ 3) (ho : ∀ r, o = some r → r ≤ 8) (K : J41 (ad_en (ad_nb l o s)) (nI (s + 1))) : wX_bestAt_136 post J29 J41 x1 x2 x3 x4 x5 (ad_en o) (nI s) (nI (ad_mk l s)) 1 F M p W B a b c := by
  refine br_f (by decide) ?_
  cases o with
  | none => exact br_t (by decide) (nm_r (nI_1 s) K)
  | some r =>
    have hr := ho r rfl
    have m1 := ad_mk_3 h3 r
    have m2 := ad_mk_3 h3 s
    refine br_f (nI_pos (show r < 2 ^ 31 by omega)) (ad_xmk hB hr ?_)
    have K : J41 (ad_en (if ad_mk l r ≤ ad_mk l s then some r else some s)) (nI (s + 1)) := K
    by_cases le : ad_mk l r ≤ ad_mk l s
    · rw [if_pos le] at K
      exact br_t (nI_le le (by omega)) (nm_r (nI_1 s) K)
    · rw [if_neg le] at K
      exact br_f (nI_ge (by omega) (by omega)) (nm_r (nI_1 s) K)
theorem ad_x79 (ok : ad_ok T L w l W B) {z : Bool} {x : Option Nat} (hu : u < 6) (hs : s ≤ 2 * L) (ho : ∀ r, o = some r → r ≤ 8) (hc : c (u * 9 + s) = ad_en x) (hG : G < 2 ^ 31) (hx : ∀ v, x = some v → v < 2 ^ 31 ∧ so * w (u * 4 + ad_mk l s) * v < 2 ^ 31) (K : J41 (ad_en (if ad_kp z x (so * w (u * 4 + ad_mk l s)) G = true then ad_nb l o s else o)) (nI (s + 1))) : wX_bestAt_79 post J29 J41 x1 (nI G) (nI so) x4 (nI u) (ad_en o) (nI s) (ad_i z) F M 0 W B a b c := by
  obtain ⟨hT, hL, h8, h3, h1, hW, hB⟩ := ok
  have m3 := ad_mk_3 h3 s
  have N : ¬ ad_kp z x (so * w (u * 4 + ad_mk l s)) G = true → wX_bestAt_135 post J29 J41 x1 (nI G) (nI so) x4 (nI u) (ad_en o) (nI s) (nI (ad_mk l s)) F M 0 W B a b c := fun n => by
    rw [if_neg n] at K
    exact br_t rfl (nm_r (nI_1 s) K)
  unfold wX_bestAt_79
  refine ad_xmk hB (by omega) ?_
  rw [ad_ix9, nI_clamp (show u * 9 + s < 2 ^ 31 by omega), hc]
  refine ⟨vp_in_nI (by omega) (by decide), nm_e ?_⟩
  cases z with
  | false =>
    refine br_t rfl (N (fun y => ?_))
    cases x with
    | none => exact nomatch y
    | some v => exact nomatch y
  | true =>
    refine br_f (by decide) ?_
    cases x with
    | none => exact br_t (by decide) (N (fun y => nomatch y))
    | some v =>
      obtain ⟨v1, v2⟩ := hx v rfl
      refine br_f (nI_pos v1) (ad_xwt hW (by omega) ?_)
      rw [ad_pw_0, pk_mul]
      have e : nI (so * w (u * 4 + ad_mk l s)) * ad_en (some v) = nI (so * w (u * 4 + ad_mk l s) * v) := pk_mul _ _
      rw [e]
      by_cases g : so * w (u * 4 + ad_mk l s) * v = G
      · rw [if_pos (show ad_kp true (some v) (so * w (u * 4 + ad_mk l s)) G = true from decide_eq_true g)] at K
        exact br_t (by rw [g]) (ad_x136 hB h3 ho K)
      · exact br_f (fun y => g ((nI_eq v2 hG).mp y)) (N (fun y => g (of_decide_eq_true y)))
/-- of the places in order, the one taken -/
theorem ad_xin (ok : ad_ok T L w l W B) {n at0 r m : Nat} (hn : u + 1 + n = T) (ha : at0 ≤ 2 * L) (hx4 : x4 = nI at0 ∨ (at0 = 0 ∧ x4 = -1)) (hG : G < 2 ^ 31) (hso : so ≤ 8 ^ u) (hc : ∀ s, s ≤ 2 * L → c (u * 9 + s) = ad_en (ad_M w l L n (u + 1) s))
    (hr : r ≤ 2 * L) (dr : ad_ld l at0 r = true) (er : ad_mk l r = m) (kr : ∃ v, ad_M w l L n (u + 1) r = some v ∧ so * w (u * 4 + m) * v = G) (kq : ∀ k v, k ≤ 2 * L → ad_ld l at0 k = true → ad_M w l L n (u + 1) k = some v → so * w (u * 4 + ad_mk l k) * v = G → m ≤ ad_mk l k ∧ (ad_mk l k = m → k = r))
    (K : J29 (nI (so * w (u * 4 + m))) (nI r) (nI (u + 1))) : ∀ (d s f : Nat) (o : Option Nat), s + d = 2 * L + 1 → d < f → (s ≤ r → ∀ k, o = some k → k ≤ 2 * L ∧ m < ad_mk l k) → (r < s → o = some r) → wX_bestAt_41 post J29 x1 (nI G) (nI so) x4 (nI u) (nI T) (nI L) 0 W B a b c f (ad_en o) (nI s) := by
  intro d
  have ok' := ok
  obtain ⟨hT, hL, h8, h3, h1, hW, hB⟩ := ok'
  have m3 := ad_mk_3 h3 r
  induction d with
  | zero =>
    intro s f o h hf _ i2
    obtain ⟨f, rfl⟩ := ad_suc hf
    rw [i2 (by omega)]
    refine br_t (by rw [ad_2]; exact nI_lt (by omega) (by omega)) ?_
    refine ad_xmk (s := r) hB (by omega) (ad_xwt hW (by omega) ?_)
    rw [ad_pw_0, er]
    exact nm_r (pk_mul _ _) (nm_r (nI_1 u) K)
  | succ d ih =>
    intro s f o h hf i1 i2
    obtain ⟨f, rfl⟩ := ad_suc hf
    have ho : ∀ k, o = some k → k ≤ 8 := fun k e => by
      by_cases z : s ≤ r
      · have := (i1 z k e).1
        omega
      · have y := i2 (by omega)
        rw [e] at y
        cases y
        omega
    have hx : ∀ v, ad_M w l L n (u + 1) s = some v → v < 2 ^ 31 ∧ so * w (u * 4 + ad_mk l s) * v < 2 ^ 31 := fun v e => by
      have b1 := ad_M_8 h1 h3 h8 (by omega) e
      have b2 : 8 ^ n ≤ 8 ^ 5 := Nat.pow_le_pow_right (by decide) (by omega)
      have b3 : so * w (u * 4 + ad_mk l s) * v ≤ 8 ^ u * 8 * 8 ^ n := Nat.mul_le_mul (Nat.mul_le_mul hso (h8 _)) b1
      have b4 : 8 ^ u * 8 * 8 ^ n = 8 ^ T := by
        rw [← Nat.pow_succ, ← Nat.pow_add, show u + 1 + n = T by omega]
      have b5 : 8 ^ T ≤ 8 ^ 6 := Nat.pow_le_pow_right (by decide) hT
      omega
    have G1 : wX_bestAt_79 post J29 (wX_bestAt_41 post J29 x1 (nI G) (nI so) x4 (nI u) (nI T) (nI L) 0 W B a b c f) x1 (nI G) (nI so) x4 (nI u) (ad_en o) (nI s) (ad_i (ad_ld l at0 s)) (nI T) (nI L) 0 W B a b c := by
      refine ad_x79 ok (by omega) (by omega) ho (hc s (by omega)) hG hx ?_
      refine ih (s + 1) f _ (by omega) (by omega) ?_ ?_
      · intro le k e
        by_cases kp : ad_kp (ad_ld l at0 s) (ad_M w l L n (u + 1) s) (so * w (u * 4 + ad_mk l s)) G = true
        · rw [if_pos kp] at e
          have hm : m < ad_mk l s := by
            cases em : ad_M w l L n (u + 1) s with
            | none =>
              rw [em] at kp
              exact nomatch kp
            | some v =>
              rw [em] at kp
              have kp : (ad_ld l at0 s && decide (so * w (u * 4 + ad_mk l s) * v = G)) = true := kp
              rw [Bool.and_eq_true, decide_eq_true_eq] at kp
              have y := kq s v (by omega) kp.1 em kp.2
              by_cases z : ad_mk l s = m
              · have := y.2 z
                omega
              · omega
          cases o with
          | none =>
            cases e
            exact ⟨by omega, hm⟩
          | some j =>
            have hj := i1 (by omega) j rfl
            have e : (if ad_mk l j ≤ ad_mk l s then some j else some s) = some k := e
            by_cases z : ad_mk l j ≤ ad_mk l s
            · rw [if_pos z] at e
              cases e
              exact hj
            · rw [if_neg z] at e
              cases e
              exact ⟨by omega, hm⟩
        · rw [if_neg kp] at e
          exact i1 (by omega) k e
      · intro lt
        by_cases es : s = r
        · obtain ⟨v, ev, eg⟩ := kr
          have kp : ad_kp (ad_ld l at0 s) (ad_M w l L n (u + 1) s) (so * w (u * 4 + ad_mk l s)) G = true := by
            rw [es, ev, dr, er]
            exact decide_eq_true eg
          rw [if_pos kp, es]
          cases o with
          | none => rfl
          | some j =>
            have hj := (i1 (by omega) j rfl).2
            exact if_neg (by omega)
        · have eo := i2 (by omega)
          rw [eo]
          by_cases kp : ad_kp (ad_ld l at0 s) (ad_M w l L n (u + 1) s) (so * w (u * 4 + ad_mk l s)) G = true
          · rw [if_pos kp]
            cases em : ad_M w l L n (u + 1) s with
            | none =>
              rw [em] at kp
              exact nomatch kp
            | some v =>
              rw [em] at kp
              have kp : (ad_ld l at0 s && decide (so * w (u * 4 + ad_mk l s) * v = G)) = true := kp
              rw [Bool.and_eq_true, decide_eq_true_eq] at kp
              have y := kq s v (by omega) kp.1 em kp.2
              exact if_pos (by omega)
          · rw [if_neg kp]
    refine br_f (by rw [ad_2]; exact nI_nlt (by omega) (by omega)) ?_
    rcases hx4 with hx4 | ⟨a0, hx4⟩
    · rw [hx4] at G1 ⊢
      exact br_t (nI_pos' (by omega)) (ad_xld hB h3 (by omega) (by omega) G1)
    · rw [hx4] at G1 ⊢
      refine br_f (by decide) ?_
      subst a0
      by_cases s1 : s ≤ 1
      · rw [ad_ld_i.mpr (show s = 0 ∨ s = 0 + 1 ∨ _ by omega)] at G1
        exact br_f (nI_nlt (a := 1) s1 (by decide)) G1
      · have n0 : ¬ ad_ld l 0 s = true := fun z => by
          have := ad_ld_i.mp z
          omega
        rw [Bool.not_eq_true] at n0
        rw [n0] at G1
        exact br_t (nI_lt (a := 1) (by omega) (by omega)) G1
theorem ad_at_p : ∀ (T t d : Nat), t < T → ad_at (ad_pth T d) t = d / 4 ^ (T - 1 - t) % 4
  | 0, _, _, h => absurd h (Nat.not_lt_zero _)
  | n + 1, 0, d, _ => by
    show d / 4 ^ n % 4 = _
    rw [show n + 1 - 1 - 0 = n by omega]
  | n + 1, t + 1, d, h => by
    show ad_at (ad_pth n d) t = _
    rw [ad_at_p n t d (by omega), show n + 1 - 1 - (t + 1) = n - 1 - t by omega]
theorem ad_x29 (ok : ad_ok T L w l W B) {t d : Nat} (ht : t < T) (hG : G < 2 ^ 31) (hc : ∀ u, u < T → ∀ r, r ≤ 2 * L → c (u * 9 + r) = ad_en (ad_M w l L (T - 1 - u) (u + 1) r)) (K : post (nI (ad_at (ad_pth T d) t)) (nI T, nI L, 0, W, B, a, b, c)) : ∀ (n u f so at0 : Nat) (x4 : Int32), u + n = t + 1 → n < f → at0 ≤ 2 * L → (x4 = nI at0 ∨ (at0 = 0 ∧ x4 = -1)) → so ≤ 8 ^ u → (0 < u → x4 = nI at0 ∧ ad_mk l at0 = d / 4 ^ (T - u) % 4) → ad_iv w l L G (T - u) u at0 so (ad_pth (T - u) d) → wX_bestAt_29 post (nI t) (nI G) (nI T) (nI L) 0 W B a b c f (nI so) x4 (nI u) := by
  intro n
  have ok' := ok
  obtain ⟨hT, hL, h8, h3, h1, hW, hB⟩ := ok'
  induction n with
  | zero =>
    intro u f so at0 x4 h hf ha hx hs hu I
    obtain ⟨f, rfl⟩ := ad_suc hf
    obtain ⟨e4, em⟩ := hu (by omega)
    rw [e4]
    refine br_t (nI_lt (by omega) (by omega)) (ad_xmk hB (by omega) ?_)
    rw [em, show T - u = T - 1 - t by omega, ← ad_at_p T t d ht]
    exact K
  | succ n ih =>
    intro u f so at0 x4 h hf ha hx hs hu I
    obtain ⟨f, rfl⟩ := ad_suc hf
    refine br_f (nI_nlt (by omega) (by omega)) ⟨2 * L + 2, ?_⟩
    rw [show T - u = (T - 1 - u) + 1 by omega] at I
    obtain ⟨r, hr, dr, er, I2, kr, kq⟩ := ad_iv_s h1 h3 ha I
    have b1 : so * w (u * 4 + d / 4 ^ (T - 1 - u) % 4) ≤ 8 ^ u * 8 := Nat.mul_le_mul hs (h8 _)
    have K2 := ih (u + 1) f (so * w (u * 4 + d / 4 ^ (T - 1 - u) % 4)) r (nI r) (by omega) (by omega) hr (Or.inl rfl) (by rw [Nat.pow_succ]; exact b1) (fun _ => ⟨rfl, by rw [er, show T - (u + 1) = T - 1 - u by omega]⟩) (by rw [show T - (u + 1) = T - 1 - u by omega]; exact I2)
    exact ad_xin ok (n := T - 1 - u) (by omega) ha hx hG hs (hc u (by omega)) hr dr er kr kq K2 (2 * L + 1) 0 (2 * L + 2) none (by omega) (by omega) (fun _ k e => nomatch e) (fun z => by omega)
end
end
section
/-! stores: frames, weights, label -/
def ad_up (w : Nat → Nat) (k v : Nat) : Nat → Nat := fun j => if j = k then v else w j
theorem ad_up_e {W : Nat → Int32} {w : Nat → Nat} (h : ∀ j, W j = nI (w j)) (k v : Nat) : ∀ j, upd W k (nI v) j = nI (ad_up w k v j) := by
  intro j
  unfold upd ad_up
  by_cases e : j = k
  · rw [if_pos e, if_pos e]
  · rw [if_neg e, if_neg e]
    exact h j
theorem ad_up_b {w : Nat → Nat} {k v n : Nat} (h : ∀ j, w j ≤ n) (hv : v ≤ n) : ∀ j, ad_up w k v j ≤ n := by
  intro j
  unfold ad_up
  by_cases e : j = k
  · rw [if_pos e]
    exact hv
  · rw [if_neg e]
    exact h j
section
variable {T L k v m : Nat} {w l : Nat → Nat} {W B : Nat → Int32}
theorem ad_ok_w (ok : ad_ok T L w l W B) (hv : v ≤ 8) : ad_ok T L (ad_up w k v) l (upd W k (nI v)) B := by
  obtain ⟨hT, hL, h8, h3, h1, hW, hB⟩ := ok
  exact ⟨hT, hL, ad_up_b h8 hv, h3, h1, ad_up_e hW k v, hB⟩
theorem ad_ok_l (ok : ad_ok T L w l W B) (h4 : L < 4) (hm : 1 ≤ m) (hm3 : m ≤ 3) : ad_ok T (L + 1) w (ad_up l L m) W (upd B L (nI m)) := by
  obtain ⟨hT, hL, h8, h3, h1, hW, hB⟩ := ok
  refine ⟨hT, h4, h8, ad_up_b h3 hm3, fun j hj => ?_, hW, ad_up_e hB L m⟩
  unfold ad_up
  by_cases e : j = L
  · rw [if_pos e]
    exact hm
  · rw [if_neg e]
    exact h1 j (by omega)
theorem ad_ok_r (ok : ad_ok T (L + 1) w l W B) : ad_ok T L w l W B := by
  obtain ⟨hT, hL, h8, h3, h1, hW, hB⟩ := ok
  exact ⟨hT, by omega, h8, h3, fun j hj => h1 j (by omega), hW, hB⟩
theorem ad_ok_t (ok : ad_ok T L w l W B) (h : T < 6) : ad_ok (T + 1) L w l W B := ⟨h, ok.2⟩
theorem ad_ok_d (ok : ad_ok (T + 1) L w l W B) : ad_ok T L w l W B := ⟨Nat.le_of_succ_le ok.1, ok.2⟩
end
theorem ad_by : ∀ d, d < 10 → vp_nar .byte ((nI d).toInt8.toInt32) = nI d := by
  intro d hd
  rw [pk_vb]
  revert d
  decide +kernel
theorem ad_r10 {x : Nat} (hx : x < 2 ^ 31) : nI x - nI x / 10 * 10 = nI (x % 10) := pk_rem (d := 10) hx (by decide) (by decide)
theorem ad_d10 {x : Nat} (hx : x < 2 ^ 31) : nI x / 10 = nI (x / 10) := pk_div (d := 10) hx (by decide) (by decide)
theorem ad_d100 {x : Nat} (hx : x < 2 ^ 31) : nI x / 100 = nI (x / 100) := pk_div (d := 100) hx (by decide) (by decide)
theorem ad_n10 : ¬ (10 : Int32) = 0 := by decide
theorem ad_n100 : ¬ (100 : Int32) = 0 := by decide
def ad_bd (v : Nat) : Prop := v % 10 = 9 ∨ v / 10 % 10 = 9 ∨ v / 10 / 10 % 10 = 9 ∨ v / 10 / 10 / 10 % 10 = 9
def ad_W4 (W : Nat → Int32) (T v : Nat) : Nat → Int32 := upd (upd (upd (upd W (T * 4 + 0) (nI (v % 10))) (T * 4 + 1) (nI (v / 10 % 10))) (T * 4 + 2) (nI (v / 10 / 10 % 10))) (T * 4 + 3) (nI (v / 10 / 10 / 10 % 10))
section
variable {post : Int32 → SX → Prop} {M p x1 : Int32} {T n x k v : Nat} {W B a b c : Nat → Int32}
theorem ad_x60s (hT : T < 6) (hk : k < 4) (hx : x < 2 ^ 31) (K : wX_frame_60 post (nI T) M p n (nI (x / 10)) (nI (k + 1)) (upd W (T * 4 + k) (nI (x % 10))) B a b c) : wX_frame_60 post (nI T) M p (n + 1) (nI x) (nI k) W B a b c := by
  refine br_f (nI_ge (b := 4) hk (by decide)) ⟨ad_n10, ?_⟩
  rw [ad_ixm, nI_clamp (show T * 4 + k < 2 ^ 31 by omega), ad_r10 hx, ad_by _ (by omega), ad_d10 hx]
  exact ⟨vp_in_nI (by omega) (by decide), nm_e ⟨ad_n10, nm_e (nm_r (nI_1 k) K)⟩⟩
theorem ad_x60 (hT : T < 6) (hv : v < 2 ^ 31) (K : post (nI T) (nI (T + 1), M, p, ad_W4 W T v, B, a, b, c)) : wX_frame_60 post (nI T) M p 5 (nI v) 0 W B a b c := by
  refine ad_x60s (k := 0) hT (by omega) hv (ad_x60s (k := 1) hT (by omega) (by omega) (ad_x60s (k := 2) hT (by omega) (by omega) (ad_x60s (k := 3) hT (by omega) (by omega) ?_)))
  refine br_t (nI_le (a := 4) (Nat.le_refl 4) (by decide)) (nm_r (nI_1 T) ?_)
  rw [nI_pred]
  exact K
theorem ad_x17s {F : Int32} (hk : k < 4) (hx : x < 2 ^ 31) (K1 : x % 10 = 9 → post (-1) (F, M, p, W, B, a, b, c)) (K2 : ¬ x % 10 = 9 → wX_frame_17 post x1 F M p W B a b c n (nI (x / 10)) (nI (k + 1))) : wX_frame_17 post x1 F M p W B a b c (n + 1) (nI x) (nI k) := by
  refine br_f (nI_ge (b := 4) hk (by decide)) ⟨ad_n10, ?_⟩
  rw [ad_r10 hx, ad_d10 hx]
  exact pk_eq (x % 10) 9 K1 (fun h => ⟨ad_n10, nm_e (nm_r (nI_1 k) (K2 h))⟩)
theorem ad_xfr (hv : v ≤ 8888) (K1 : ad_bd v → post (-1) (nI T, M, p, W, B, a, b, c)) (K2 : ¬ ad_bd v → 6 ≤ T → post (-2) (nI T, M, p, W, B, a, b, c)) (K3 : ¬ ad_bd v → T < 6 → post (nI T) (nI (T + 1), M, p, ad_W4 W T v, B, a, b, c)) (hT : T ≤ 6) : wpX_frame post (nI T, M, p, W, B, a, b, c) (nI v) := by
  refine br_f (nI_pos (by omega)) (br_t (nI_le (b := 8888) hv (by decide)) ⟨5, ?_⟩)
  refine ad_x17s (k := 0) (by omega) (by omega) (fun h => K1 (Or.inl h)) (fun g0 => ?_)
  refine ad_x17s (k := 1) (by omega) (by omega) (fun h => K1 (Or.inr (Or.inl h))) (fun g1 => ?_)
  refine ad_x17s (k := 2) (by omega) (by omega) (fun h => K1 (Or.inr (Or.inr (Or.inl h)))) (fun g2 => ?_)
  refine ad_x17s (k := 3) (by omega) (by omega) (fun h => K1 (Or.inr (Or.inr (Or.inr h)))) (fun g3 => ?_)
  have g : ¬ ad_bd v := fun z => z.elim g0 (fun z => z.elim g1 (fun z => z.elim g2 g3))
  refine br_t (nI_le (a := 4) (Nat.le_refl 4) (by decide)) ?_
  exact pk_lt T 6 (fun h => ⟨5, ad_x60 h (by omega) (K3 g h)⟩) (fun h => K2 g h)
end
section
variable {post : Int32 → SY → Prop} {M : Int32} {T n x k v : Nat} {W B P R : Nat → Int32}
theorem ad_y73s (hT : T < 6) (hk : k < 4) (hx : x < 2 ^ 31) (K : wY_frame_73 post (nI T) M n (nI (x / 10)) (nI (k + 1)) (upd W (T * 4 + k) (nI (x % 10))) B P R) : wY_frame_73 post (nI T) M (n + 1) (nI x) (nI k) W B P R := by
  refine br_f (nI_ge (b := 4) hk (by decide)) ⟨ad_n10, ?_⟩
  rw [ad_ix4, nI_clamp (show T * 4 + k < 2 ^ 31 by omega), ad_r10 hx, ad_d10 hx]
  exact ⟨vp_in_nI (by omega) (by decide), nm_e ⟨ad_n10, nm_e (nm_r (nI_1 k) K)⟩⟩
theorem ad_y73 (hT : T < 6) (hv : v < 2 ^ 31) (K : post (nI T) (nI (T + 1), M, ad_W4 W T v, B, P, R)) : wY_frame_73 post (nI T) M 5 (nI v) 0 W B P R := by
  refine ad_y73s (k := 0) hT (by omega) hv (ad_y73s (k := 1) hT (by omega) (by omega) (ad_y73s (k := 2) hT (by omega) (by omega) (ad_y73s (k := 3) hT (by omega) (by omega) ?_)))
  refine br_t (nI_le (a := 4) (Nat.le_refl 4) (by decide)) (nm_r (nI_1 T) ?_)
  rw [nI_pred]
  exact K
theorem ad_yfr (hv : v ≤ 8888) (K1 : ad_bd v → post (-1) (nI T, M, W, B, P, R)) (K2 : ¬ ad_bd v → 6 ≤ T → post (-2) (nI T, M, W, B, P, R)) (K3 : ¬ ad_bd v → T < 6 → post (nI T) (nI (T + 1), M, ad_W4 W T v, B, P, R)) (hT : T ≤ 6) : wpY_frame post (nI T, M, W, B, P, R) (nI v) := by
  have N : ad_bd v → wY_frame_48 post (nI v) (nI T) M W B P R := fun z => br_t rfl (K1 z)
  have e1 := ad_d10 (x := v) (by omega)
  have e2 := ad_d100 (x := v) (by omega)
  unfold wpY_frame
  dsimp only
  rw [ad_r10 (x := v) (by omega), e1, e2, ad_r10 (x := v / 10) (by omega), ad_r10 (x := v / 100) (by omega)]
  refine br_f (nI_pos (by omega)) (br_f (nI_nlt (a := 8888) hv (by decide)) ⟨ad_n10, ?_⟩)
  refine pk_le 9 (v % 10) (fun h => N (Or.inl (by omega))) (fun g0 => ⟨ad_n10, ad_n10, ?_⟩)
  refine pk_le 9 (v / 10 % 10) (fun h => N (Or.inr (Or.inl (by omega)))) (fun g1 => ⟨ad_n100, ad_n10, ?_⟩)
  refine pk_le 9 (v / 100 % 10) (fun h => N (Or.inr (Or.inr (Or.inl (by omega))))) (fun g2 => ?_)
  have g : ¬ ad_bd v := fun z => by
    unfold ad_bd at z
    omega
  refine br_f (by decide) ?_
  exact pk_lt T 6 (fun h => ⟨5, ad_y73 h (by omega) (K3 g h)⟩) (fun h => K2 g h)
end
theorem ad_ok_4 {T L v : Nat} {w l : Nat → Nat} {W B : Nat → Int32} (ok : ad_ok T L w l W B) (g : ¬ ad_bd v) : ∃ w', ad_ok T L w' l (ad_W4 W T v) B := by
  have d0 : v % 10 ≤ 8 := by unfold ad_bd at g; omega
  have d1 : v / 10 % 10 ≤ 8 := by unfold ad_bd at g; omega
  have d2 : v / 10 / 10 % 10 ≤ 8 := by unfold ad_bd at g; omega
  have d3 : v / 10 / 10 / 10 % 10 ≤ 8 := by unfold ad_bd at g; omega
  exact ⟨_, ad_ok_w (ad_ok_w (ad_ok_w (ad_ok_w ok d0) d1) d2) d3⟩
/-! label -/
section
variable {L m : Nat} {F M p : Int32} {W B a b c P R : Nat → Int32}
theorem ad_by3 : ∀ d, d < 10 → vp_nar .byte (nI d).toInt8.toInt32 = nI d := ad_by
theorem ad_xwr {post : Int32 → SX → Prop} (hL : L < 4) (hm : 1 ≤ m) (hm3 : m ≤ 3) (K : post (nI (L + 1)) (F, nI (L + 1), p, W, upd B L (nI m), a, b, c)) : wpX_write post (F, nI L, p, W, B, a, b, c) (nI m) := by
  refine br_f (nI_nlt (b := 1) hm (by omega)) (br_t (nI_le (b := 3) hm3 (by decide)) (br_t (nI_lt (b := 4) hL (by decide)) ?_))
  refine And.intro (vp_in_nI hL (by decide)) (nm_r (e' := upd B L (nI m)) ?_ (nm_r (nI_1 L) K))
  rw [ad_by m (by omega), nI_clamp (by omega)]
theorem ad_ywr {post : Int32 → SY → Prop} (hL : L < 4) (hm : 1 ≤ m) (hm3 : m ≤ 3) (K : post (nI (L + 1)) (F, nI (L + 1), W, upd B L (nI m), P, R)) : wpY_write post (F, nI L, W, B, P, R) (nI m) := by
  refine br_f (nI_nlt (b := 1) hm (by omega)) (br_t (nI_le (b := 3) hm3 (by decide)) (br_t (nI_lt (b := 4) hL (by decide)) ?_))
  refine And.intro (vp_in_nI hL (by decide)) (nm_r (e' := upd B L (nI m)) ?_ (nm_r (nI_1 L) K))
  rw [nI_clamp (by omega)]
theorem ad_xru {post : Int32 → SX → Prop} (hL : L < 4) (K : post (B L) (F, nI L, p, W, B, a, b, c)) : wpX_rub post (F, nI (L + 1), p, W, B, a, b, c) := by
  refine br_f (nI_ne0 (by omega) (by omega)) (nm_r (nI_pred L) ⟨vp_in_nI hL (by decide), ?_⟩)
  rw [nI_clamp (by omega)]
  exact K
theorem ad_yru {post : Int32 → SY → Prop} (hL : L < 4) (K : post (B L) (F, nI L, W, B, P, R)) : wpY_rub post (F, nI (L + 1), W, B, P, R) := by
  refine br_f (nI_ne0 (by omega) (by omega)) (nm_r (nI_pred L) ⟨vp_in_nI hL (by decide), ?_⟩)
  rw [nI_clamp (by omega)]
  exact K
end
end
section
/-! bestNext in lockstep; the first best path is one -/
theorem ad_Fs_e (A : Nat → Prop) (f : Nat → Nat) : ∀ n, ∃ o, ad_Fs A f n o
  | 0 => ⟨none, ad_Fs_0⟩
  | n + 1 => by
    obtain ⟨o, h⟩ := ad_Fs_e A f n
    by_cases a : A n
    · cases o with
      | none => exact ⟨_, ad_Fs_n h a⟩
      | some d =>
        by_cases le : f n ≤ f d
        · exact ⟨_, ad_Fs_l h le⟩
        · exact ⟨_, ad_Fs_g h a (by omega)⟩
    · exact ⟨_, ad_Fs_k h a⟩
theorem ad_Fs_q {A : Nat → Prop} {f : Nat → Nat} {n : Nat} {o y : Option Nat} (h : ad_Fs A f n o) (g : ad_Fs A f n y) : o = y := by
  cases o with
  | none =>
    cases y with
    | none => rfl
    | some e => exact absurd g.2.1 (h e g.1)
  | some d =>
    cases y with
    | none => exact absurd h.2.1 (g d h.1)
    | some e =>
      have k1 := h.2.2 e g.1 g.2.1
      have k2 := g.2.2 d h.1 h.2.1
      have : d = e := by
        rcases Nat.lt_trichotomy d e with z | z | z
        · have := k2.2 z
          omega
        · exact z
        · have := k1.2 z
          omega
      rw [this]
theorem ad_bn {T L : Nat} {w : Nat → Nat} {W : Nat → Int32} : ∀ (n m : Nat) (best most : Int32) (l : Nat → Nat) (B : Nat → Int32), ad_ok T L w l W B → 1 ≤ m → m + n = 4 →
    ∃ (r : Int32) (l' : Nat → Nat) (B' : Nat → Int32), ad_ok T L w l' W B' ∧
      (∀ (post : Int32 → SX → Prop) (p : Int32) (a b c : Nat → Int32), (∀ (p' : Int32) (a' b' c' : Nat → Int32), post r (nI T, nI L, p', W, B', a', b', c')) → wX_bestNext_6 post (n + 1) best most (nI m) (nI T) (nI L) p W B a b c) ∧
      (∀ (post : Int32 → SY → Prop) (P R : Nat → Int32), (∀ (P' R' : Nat → Int32), post r (nI T, nI L, W, B', P', R')) → wY_bestNext_6 post (n + 1) best most (nI m) (nI T) (nI L) W B P R) := by
  intro n
  induction n with
  | zero =>
    intro m best most l B ok hm h
    rw [show m = 4 by omega]
    exact ⟨best, l, B, ok, fun post p a b c K => br_t (nI_le (a := 4) (Nat.le_refl 4) (by decide)) (K p a b c), fun post P R K => br_t (nI_le (a := 4) (Nat.le_refl 4) (by decide)) (K P R)⟩
  | succ n ih =>
    intro m best most l B ok hm h
    have c4 : ¬ (4 : Int32) ≤ nI m := nI_ge (b := 4) (by omega) (by decide)
    have hL := ok.2.1
    by_cases l4 : L < 4
    · have c5 : ¬ (4 : Int32) ≤ nI L := nI_ge (b := 4) l4 (by decide)
      have ok1 := ad_ok_l ok l4 hm (show m ≤ 3 by omega)
      have ok2 := ad_ok_r ok1
      by_cases le : nI (ad_O false w (ad_up l L m) (L + 1) 0 T 0) ≤ most
      · obtain ⟨r, l', B', ok', HX, HY⟩ := ih (m + 1) best most _ _ ok2 (by omega) (by omega)
        refine ⟨r, l', B', ok', fun post p a b c K => br_f c4 (br_f c5 ?_), fun post P R K => br_f c4 (br_f c5 ?_)⟩
        · refine ad_xwr l4 hm (by omega) (ad_xtot ok1 (fun a' => ad_xru l4 ?_))
          exact br_t le (nm_r (nI_1 m) (HX post 0 a' b c K))
        · refine ad_ywr l4 hm (by omega) (ad_ytot ok1 (fun P' R' => ad_yru l4 ?_))
          exact br_t le (br_t le (nm_r (nI_1 m) (HY post P' R' K)))
      · obtain ⟨r, l', B', ok', HX, HY⟩ := ih (m + 1) (nI m) (nI (ad_O false w (ad_up l L m) (L + 1) 0 T 0)) _ _ ok2 (by omega) (by omega)
        refine ⟨r, l', B', ok', fun post p a b c K => br_f c4 (br_f c5 ?_), fun post P R K => br_f c4 (br_f c5 ?_)⟩
        · refine ad_xwr l4 hm (by omega) (ad_xtot ok1 (fun a' => ad_xru l4 ?_))
          exact br_f le (nm_r (nI_1 m) (HX post 0 a' b c K))
        · refine ad_ywr l4 hm (by omega) (ad_ytot ok1 (fun P' R' => ad_yru l4 ?_))
          exact br_f le (br_f le (nm_r (nI_1 m) (HY post P' R' K)))
    · have c5 : (4 : Int32) ≤ nI L := nI_le (a := 4) (by omega) (by omega)
      exact ⟨best, l, B, ok, fun post p a b c K => br_f c4 (br_t c5 (K p a b c)), fun post P R K => br_f c4 (br_t c5 (K P R))⟩
end
section
/-! the owed statements -/
/-- one table of weights and one label on both sides; all else is scratch -/
def i_Rel (_ : Nat) (u : SX) (v : SY) : Prop := ∃ (T L : Nat) (w l : Nat → Nat) (p : Int32) (W B a b c P R : Nat → Int32), ad_ok T L w l W B ∧ u = (nI T, nI L, p, W, B, a, b, c) ∧ v = (nI T, nI L, W, B, P, R)
theorem ad_rel {k T L : Nat} {w l : Nat → Nat} {p : Int32} {W B a b c P R : Nat → Int32} (ok : ad_ok T L w l W B) : i_Rel k (nI T, nI L, p, W, B, a, b, c) (nI T, nI L, W, B, P, R) := ⟨T, L, w, l, p, W, B, a, b, c, P, R, ok, rfl, rfl⟩
theorem ad_el {k : Nat} {Q : SX → SY → Prop} {u : SX} {v : SY} (I : i_Rel k u v) (h : ∀ (T L : Nat) (w l : Nat → Nat) (p : Int32) (W B a b c P R : Nat → Int32), ad_ok T L w l W B → Q (nI T, nI L, p, W, B, a, b, c) (nI T, nI L, W, B, P, R)) : Q u v := by
  obtain ⟨T, L, w, l, p, W, B, a, b, c, P, R, ok, rfl, rfl⟩ := I
  exact h T L w l p W B a b c P R ok
theorem ad_34 {x : Int32} (h : 4 ≤ x) : 3 < x := by
  have h := Int32.le_iff_toInt_le.mp h
  have h : (4 : Int) ≤ x.toInt := h
  rw [Int32.lt_iff_toInt_lt]
  show (3 : Int) < x.toInt
  omega
section
variable {q : Int32 → Prop} {M p x : Int32} {T t : Nat} {W B a b c P R : Nat → Int32}
theorem ad_xf0 (h : x < 0 ∨ nI T ≤ x) (K : q 0) : wpX_isFrame q (nI T, M, p, W, B, a, b, c) x := by
  by_cases z : x < 0
  · exact br_t z K
  · exact br_f z (br_t (h.resolve_left z) K)
theorem ad_xf1 (hT : T ≤ 6) (ht : t < T) (K : q 1) : wpX_isFrame q (nI T, M, p, W, B, a, b, c) (nI t) := br_f (nI_pos (by omega)) (br_f (nI_ge ht (by omega)) K)
theorem ad_yf_0 (h : x < 0 ∨ nI T ≤ x) (K : q 0) : wpY_is q (nI T, M, W, B, P, R) x := by
  by_cases z : x < 0
  · exact br_t z K
  · exact br_f z (br_t (h.resolve_left z) K)
theorem ad_yf_1 (hT : T ≤ 6) (ht : t < T) (K : q 1) : wpY_is q (nI T, M, W, B, P, R) (nI t) := br_f (nI_pos (by omega)) (br_f (nI_ge ht (by omega)) K)
theorem ad_xm0 (h : x < 0 ∨ nI 4 ≤ x) (K : q 0) : wpX_isMark q x := by
  by_cases z : x < 0
  · exact br_t z K
  · exact br_f z (br_t (h.resolve_left z) K)
theorem ad_xm1 (ht : t < 4) (K : q 1) : wpX_isMark q (nI t) := br_f (nI_pos (by omega)) (br_f (nI_ge (b := 4) ht (by decide)) K)
theorem ad_ym0 {F : Int32} (h : x < 0 ∨ nI 4 ≤ x) (K : q 0) : wpY_mark q (F, M, W, B, P, R) x := by
  by_cases z : x < 0
  · exact br_t z K
  · exact br_f z (br_t (ad_34 (h.resolve_left z)) K)
theorem ad_ym1 {F : Int32} (ht : t < 4) (K : q 1) : wpY_mark q (F, M, W, B, P, R) (nI t) := br_f (nI_pos (by omega)) (br_f (nI_nlt (a := 3) (by omega) (by decide)) K)
theorem ad_ix (x : Int32) {n : Nat} (hn : n < 2 ^ 31) : (x < 0 ∨ nI n ≤ x) ∨ ∃ j : Nat, j < n ∧ x = nI j := (pk_ix x hn).elim (fun h => Or.inl (Or.inl h)) (fun h => h.elim (fun h => Or.inl (Or.inr h)) Or.inr)
end
theorem i_up {k : Nat} {u : SX} {v : SY} (h : i_Rel k u v) : i_Rel (k + 4) u v := h
theorem i_vc0 : wpX_init (fun u => wpY_init (fun v => i_Rel 0 u v)) := by
  have ok : ad_ok 0 0 (fun _ => 0) (fun _ => 0) (fun _ => 0) (fun _ => 0) := ⟨by omega, by omega, fun _ => Nat.zero_le 8, fun _ => Nat.zero_le 3, fun j h => absurd h (Nat.not_lt_zero j), fun _ => rfl, fun _ => rfl⟩
  exact ad_rel (k := 0) ok
theorem i_vc_frame {k : Nat} {u : SX} {v : SY} (I : i_Rel k u v) (hk : k + 4 ≤ 2048) (v1 : Int32) : wpX_frame (fun r u' => wpY_frame (fun r' v' => r' = r ∧ i_Rel (k + 4) u' v') v v1) u v1 := by
  refine ad_el (Q := fun u v => wpX_frame (fun r u' => wpY_frame (fun r' v' => r' = r ∧ i_Rel (k + 4) u' v') v v1) u v1) I ?_
  intro T L w l p W B a b c P R ok
  by_cases h0 : v1 < 0
  · exact br_t h0 (br_t h0 (br_t rfl ⟨rfl, ad_rel ok⟩))
  by_cases h8 : v1 ≤ 8888
  · obtain ⟨x, hx, rfl⟩ := nI_of2 (n := 8888) (by decide) h0 h8
    have hT := ok.1
    refine ad_xfr hx (fun g => ?_) (fun g h => ?_) (fun g h => ?_) hT
    · exact ad_yfr hx (fun _ => ⟨rfl, ad_rel ok⟩) (fun z => absurd g z) (fun z => absurd g z) hT
    · exact ad_yfr hx (fun z => absurd z g) (fun _ _ => ⟨rfl, ad_rel ok⟩) (fun _ z => by omega) hT
    · refine ad_yfr hx (fun z => absurd z g) (fun _ z => by omega) (fun _ _ => ⟨rfl, ?_⟩) hT
      obtain ⟨w', ok'⟩ := ad_ok_4 ok g
      exact ad_rel (ad_ok_t ok' h)
  · exact br_f h0 (br_f h8 (br_f h0 (br_t (Int32.not_le.mp h8) (br_t rfl ⟨rfl, ad_rel ok⟩))))
theorem i_vc_dropFrame {k : Nat} {u : SX} {v : SY} (I : i_Rel k u v) (hk : k + 4 ≤ 2048) : wpX_dropFrame (fun r u' => wpY_dropFrame (fun r' v' => r' = r ∧ i_Rel (k + 4) u' v') v) u := by
  refine ad_el (Q := fun u v => wpX_dropFrame (fun r u' => wpY_dropFrame (fun r' v' => r' = r ∧ i_Rel (k + 4) u' v') v) u) I ?_
  intro T L w l p W B a b c P R ok
  have hT := ok.1
  cases T with
  | zero => exact br_t rfl (br_t rfl ⟨rfl, ad_rel ok⟩)
  | succ T =>
    have n0 : ¬ nI (T + 1) = 0 := nI_ne0 (by omega) (by omega)
    exact br_f n0 (nm_r (nI_pred T) (br_f n0 (nm_r (nI_pred T) ⟨rfl, ad_rel (ad_ok_d ok)⟩)))
theorem i_vc_weigh {k : Nat} {u : SX} {v : SY} (I : i_Rel k u v) (hk : k + 4 ≤ 2048) (v1 : Int32) (v2 : Int32) (v3 : Int32) : wpX_weigh (fun r u' => wpY_weigh (fun r' v' => r' = r ∧ i_Rel (k + 4) u' v') v v1 v2 v3) u v1 v2 v3 := by
  refine ad_el (Q := fun u v => wpX_weigh (fun r u' => wpY_weigh (fun r' v' => r' = r ∧ i_Rel (k + 4) u' v') v v1 v2 v3) u v1 v2 v3) I ?_
  intro T L w l p W B a b c P R ok
  have hT := ok.1
  unfold wpX_weigh wpY_weigh
  dsimp only
  rcases ad_ix v1 (n := T) (by omega) with h1 | ⟨t, ht, rfl⟩
  · exact ad_xf0 h1 (br_t rfl (ad_yf_0 h1 (br_t rfl ⟨rfl, ad_rel ok⟩)))
  refine ad_xf1 hT ht (br_f (by decide) ?_)
  rcases ad_ix v2 (n := 4) (by decide) with h2 | ⟨m, hm, rfl⟩
  · exact ad_xm0 h2 (br_t rfl (ad_yf_1 hT ht (br_f (by decide) (ad_ym0 h2 (br_t rfl ⟨rfl, ad_rel ok⟩)))))
  refine ad_xm1 hm (br_f (by decide) ?_)
  by_cases h0 : v3 < 0
  · exact br_t h0 (ad_yf_1 hT ht (br_f (by decide) (ad_ym1 hm (br_f (by decide) (br_t h0 ⟨rfl, ad_rel ok⟩)))))
  refine br_f h0 ?_
  by_cases h8 : v3 ≤ 8
  · obtain ⟨x, hx, rfl⟩ := nI_of2 (n := 8) (by decide) h0 h8
    refine br_t h8 ?_
    rw [ad_ixm, nI_clamp (show t * 4 + m < 2 ^ 31 by omega), ad_by x (by omega)]
    refine ⟨vp_in_nI (by omega) (by decide), nm_e ?_⟩
    refine ad_yf_1 hT ht (br_f (by decide) (ad_ym1 hm (br_f (by decide) (br_f h0 (br_t h8 ?_)))))
    rw [ad_ix4, nI_clamp (show t * 4 + m < 2 ^ 31 by omega)]
    exact ⟨vp_in_nI (by omega) (by decide), nm_e ⟨rfl, ad_rel (ad_ok_w ok hx)⟩⟩
  · exact br_f h8 (ad_yf_1 hT ht (br_f (by decide) (ad_ym1 hm (br_f (by decide) (br_f h0 (br_f h8 ⟨rfl, ad_rel ok⟩))))))
theorem i_vc_write {k : Nat} {u : SX} {v : SY} (I : i_Rel k u v) (hk : k + 4 ≤ 2048) (v1 : Int32) : wpX_write (fun r u' => wpY_write (fun r' v' => r' = r ∧ i_Rel (k + 4) u' v') v v1) u v1 := by
  refine ad_el (Q := fun u v => wpX_write (fun r u' => wpY_write (fun r' v' => r' = r ∧ i_Rel (k + 4) u' v') v v1) u v1) I ?_
  intro T L w l p W B a b c P R ok
  have hL := ok.2.1
  by_cases h1 : v1 < 1
  · exact br_t h1 (br_t h1 ⟨rfl, ad_rel ok⟩)
  by_cases h3 : v1 ≤ 3
  · have h0 : ¬ v1 < 0 := fun z => h1 (Int32.lt_of_lt_of_le z (by decide))
    obtain ⟨m, hm, rfl⟩ := nI_of2 (n := 3) (by decide) h0 h3
    have hm1 : 1 ≤ m := by
      by_cases z : m = 0
      · exact absurd (by rw [z]; decide) h1
      · omega
    by_cases l4 : L < 4
    · exact ad_xwr l4 hm1 hm (ad_ywr l4 hm1 hm ⟨rfl, ad_rel (ad_ok_l ok l4 hm1 hm)⟩)
    · have c4 : ¬ nI L < 4 := nI_nlt (b := 4) (by omega) (by omega)
      exact br_f h1 (br_t h3 (br_f c4 (br_f h1 (br_t h3 (br_f c4 ⟨rfl, ad_rel ok⟩)))))
  · exact br_f h1 (br_f h3 (br_f h1 (br_f h3 ⟨rfl, ad_rel ok⟩)))
theorem i_vc_rub {k : Nat} {u : SX} {v : SY} (I : i_Rel k u v) (hk : k + 4 ≤ 2048) : wpX_rub (fun r u' => wpY_rub (fun r' v' => r' = r ∧ i_Rel (k + 4) u' v') v) u := by
  refine ad_el (Q := fun u v => wpX_rub (fun r u' => wpY_rub (fun r' v' => r' = r ∧ i_Rel (k + 4) u' v') v) u) I ?_
  intro T L w l p W B a b c P R ok
  have hL := ok.2.1
  cases L with
  | zero => exact br_t rfl (br_t rfl ⟨rfl, ad_rel ok⟩)
  | succ L => exact ad_xru hL (ad_yru hL ⟨rfl, ad_rel (ad_ok_r ok)⟩)
theorem i_vc_frames {k : Nat} {u : SX} {v : SY} (I : i_Rel k u v) (hk : k + 4 ≤ 2048) : wpX_frames (fun r => wpY_frames (fun r' => r' = r ∧ i_Rel (k + 4) u v) v) u := by
  refine ad_el (Q := fun u v => wpX_frames (fun r => wpY_frames (fun r' => r' = r ∧ i_Rel (k + 4) u v) v) u) I ?_
  intro T L w l p W B a b c P R ok
  exact And.intro rfl (ad_rel ok)
theorem i_vc_length {k : Nat} {u : SX} {v : SY} (I : i_Rel k u v) (hk : k + 4 ≤ 2048) : wpX_length (fun r => wpY_length (fun r' => r' = r ∧ i_Rel (k + 4) u v) v) u := by
  refine ad_el (Q := fun u v => wpX_length (fun r => wpY_length (fun r' => r' = r ∧ i_Rel (k + 4) u v) v) u) I ?_
  intro T L w l p W B a b c P R ok
  exact And.intro rfl (ad_rel ok)
theorem i_vc_total {k : Nat} {u : SX} {v : SY} (I : i_Rel k u v) (hk : k + 4 ≤ 2048) : wpX_total (fun r u' => wpY_total (fun r' v' => r' = r ∧ i_Rel (k + 4) u' v') v) u := by
  refine ad_el (Q := fun u v => wpX_total (fun r u' => wpY_total (fun r' v' => r' = r ∧ i_Rel (k + 4) u' v') v) u) I ?_
  intro T L w l p W B a b c P R ok
  exact ad_xtot ok (fun a' => ad_ytot ok (fun P' R' => ⟨rfl, ad_rel ok⟩))
theorem i_vc_paths {k : Nat} {u : SX} {v : SY} (I : i_Rel k u v) (hk : k + 4 ≤ 2048) : wpX_paths (fun r u' => wpY_paths (fun r' v' => r' = r ∧ i_Rel (k + 4) u' v') v) u := by
  refine ad_el (Q := fun u v => wpX_paths (fun r u' => wpY_paths (fun r' v' => r' = r ∧ i_Rel (k + 4) u' v') v) u) I ?_
  intro T L w l p W B a b c P R ok
  exact ad_xpaths ok (fun a' => ad_ypaths ok (fun P' R' => ⟨rfl, ad_rel ok⟩))
theorem i_vc_best {k : Nat} {u : SX} {v : SY} (I : i_Rel k u v) (hk : k + 4 ≤ 2048) : wpX_best (fun r u' => wpY_best (fun r' v' => r' = r ∧ i_Rel (k + 4) u' v') v) u := by
  refine ad_el (Q := fun u v => wpX_best (fun r u' => wpY_best (fun r' v' => r' = r ∧ i_Rel (k + 4) u' v') v) u) I ?_
  intro T L w l p W B a b c P R ok
  refine ad_xbest ok (fun b' c' => ?_)
  unfold wpY_best
  dsimp only
  refine ad_yfirst ok (fun o P' R' F => ?_)
  rw [ad_MX_q (ad_M_l ok.2.2.2.2.1 ok.2.2.2.1 T 0 0 (by omega)) (ad_Fs_M F)]
  have h4 := ad_46 ok.1
  cases o with
  | none => exact br_f (by decide) ⟨rfl, ad_rel ok⟩
  | some d =>
    have hd : d < 4 ^ T := F.1
    exact br_t (nI_pos' (show d < 2 ^ 31 by omega)) (ad_spell ok.2.2.2.2.2.1 ok.1 (by omega) (fun P1 _ => ⟨rfl, ad_rel ok⟩))
theorem i_vc_through {k : Nat} {u : SX} {v : SY} (I : i_Rel k u v) (hk : k + 4 ≤ 2048) (v1 : Int32) (v2 : Int32) : wpX_through (fun r u' => wpY_through (fun r' v' => r' = r ∧ i_Rel (k + 4) u' v') v v1 v2) u v1 v2 := by
  refine ad_el (Q := fun u v => wpX_through (fun r u' => wpY_through (fun r' v' => r' = r ∧ i_Rel (k + 4) u' v') v v1 v2) u v1 v2) I ?_
  intro T L w l p W B a b c P R ok
  have hT := ok.1
  unfold wpX_through wpY_through
  dsimp only
  rcases ad_ix v1 (n := T) (by omega) with h1 | ⟨t, ht, rfl⟩
  · exact ad_xf0 h1 (br_t rfl (ad_yf_0 h1 (br_t rfl ⟨rfl, ad_rel ok⟩)))
  refine ad_xf1 hT ht (br_f (by decide) ?_)
  rcases ad_ix v2 (n := 4) (by decide) with h2 | ⟨m, hm, rfl⟩
  · exact ad_xm0 h2 (br_t rfl (ad_yf_1 hT ht (br_f (by decide) (ad_ym0 h2 (br_t rfl ⟨rfl, ad_rel ok⟩)))))
  refine ad_xm1 hm (br_f (by decide) ?_)
  refine ad_xon ok (fun a' hA => ?_)
  rw [ad_pw_0] at hA
  refine ad_xback ok (fun b' c' hB => ?_)
  refine ⟨2 * L + 2, ad_x35 ok ht (by omega) (hA t ht) (fun r hr => (hB t ht r hr).1) ?_ (2 * L + 1) 0 (2 * L + 2) (by omega) (by omega)⟩
  refine ad_yf_1 hT ht (br_f (by decide) (ad_ym1 hm (br_f (by decide) ⟨4 ^ T + 1, ?_⟩)))
  exact ad_yhl ok ht (by omega) (4 ^ T) 0 (4 ^ T + 1) P R (Nat.zero_add _) (Nat.lt_succ_self _) (fun P' R' => ⟨rfl, ad_rel ok⟩)
theorem i_vc_prefix {k : Nat} {u : SX} {v : SY} (I : i_Rel k u v) (hk : k + 4 ≤ 2048) : wpX_prefix (fun r u' => wpY_prefix (fun r' v' => r' = r ∧ i_Rel (k + 4) u' v') v) u := by
  refine ad_el (Q := fun u v => wpX_prefix (fun r u' => wpY_prefix (fun r' v' => r' = r ∧ i_Rel (k + 4) u' v') v) u) I ?_
  intro T L w l p W B a b c P R ok
  exact ad_xpre ok (fun p' a' => ad_ypre ok (fun P' R' => ⟨rfl, ad_rel ok⟩))
theorem i_vc_everything {k : Nat} {u : SX} {v : SY} (I : i_Rel k u v) (hk : k + 4 ≤ 2048) : wpX_everything (fun r => wpY_everything (fun r' v' => r' = r ∧ i_Rel (k + 4) u v') v) u := by
  refine ad_el (Q := fun u v => wpX_everything (fun r => wpY_everything (fun r' v' => r' = r ∧ i_Rel (k + 4) u v') v) u) I ?_
  intro T L w l p W B a b c P R ok
  exact ad_xev ok (ad_yev ok (fun P' R' => ⟨rfl, ad_rel ok⟩))
theorem i_vc_bestNext {k : Nat} {u : SX} {v : SY} (I : i_Rel k u v) (hk : k + 4 ≤ 2048) : wpX_bestNext (fun r u' => wpY_bestNext (fun r' v' => r' = r ∧ i_Rel (k + 4) u' v') v) u := by
  refine ad_el (Q := fun u v => wpX_bestNext (fun r u' => wpY_bestNext (fun r' v' => r' = r ∧ i_Rel (k + 4) u' v') v) u) I ?_
  intro T L w l p W B a b c P R ok
  obtain ⟨r, l', B', ok', HX, HY⟩ := ad_bn 3 1 0 0 l B ok (by omega) (by omega)
  exact Exists.intro 4 (HX _ p a b c (fun p' a' b' c' => Exists.intro 4 (HY _ P R (fun P' R' => ⟨rfl, ad_rel ok'⟩))))
theorem i_vc_bestAt {k : Nat} {u : SX} {v : SY} (I : i_Rel k u v) (hk : k + 4 ≤ 2048) (v1 : Int32) : wpX_bestAt (fun r u' => wpY_bestAt (fun r' v' => r' = r ∧ i_Rel (k + 4) u' v') v v1) u v1 := by
  refine ad_el (Q := fun u v => wpX_bestAt (fun r u' => wpY_bestAt (fun r' v' => r' = r ∧ i_Rel (k + 4) u' v') v v1) u v1) I ?_
  intro T L w l p W B a b c P R ok
  have hT := ok.1
  have h4 := ad_46 hT
  unfold wpX_bestAt wpY_bestAt
  dsimp only
  rcases ad_ix v1 (n := T) (by omega) with h1 | ⟨t, ht, rfl⟩
  · refine ad_xf0 h1 (br_t rfl (ad_yfirst ok (fun o P' R' F => ?_)))
    cases o with
    | none => exact br_t (by decide) ⟨rfl, ad_rel ok⟩
    | some d =>
      have hd : d < 4 ^ T := F.1
      exact br_f (nI_pos (show d < 2 ^ 31 by omega)) (ad_yf_0 h1 (br_t rfl ⟨rfl, ad_rel ok⟩))
  refine ad_xf1 hT ht (br_f (by decide) ?_)
  obtain ⟨o, F⟩ := ad_Fs_e (ad_A l L T) (ad_f w T) (4 ^ T)
  refine ad_xgr ok (fun b' c' hc => ?_)
  rw [ad_MX_q (ad_M_l ok.2.2.2.2.1 ok.2.2.2.1 T 0 0 (by omega)) (ad_Fs_M F)]
  cases o with
  | none =>
    refine br_f (show ¬ (0 : Int32) ≤ -1 by decide) (ad_yfirst ok (fun o P' R' F2 => ?_))
    rw [ad_Fs_q F2 F]
    exact br_t (by decide) ⟨rfl, ad_rel ok⟩
  | some d =>
    have hd : d < 4 ^ T := F.1
    have g8 := ad_f8 (T := T) ok.2.2.1 hT d
    have g8 : ad_wt w 0 (ad_pth T d) ≤ 262144 := g8
    refine br_t (nI_pos' (show ad_wt w 0 (ad_pth T d) < 2 ^ 31 by omega)) ⟨t + 2, ?_⟩
    refine ad_x29 (d := d) (G := ad_wt w 0 (ad_pth T d)) ok ht (by omega) hc ?_ (t + 1) 0 (t + 2) 1 0 (-1) (by omega) (by omega) (by omega) (Or.inr ⟨rfl, rfl⟩) (by omega) (fun z => absurd z (Nat.lt_irrefl 0)) (ad_Fs_v F)
    refine ad_yfirst ok (fun o P' R' F2 => ?_)
    rw [ad_Fs_q F2 F]
    refine br_f (nI_pos (show d < 2 ^ 31 by omega)) (ad_yf_1 hT ht (br_f (by decide) ?_))
    refine ad_spell ok.2.2.2.2.2.1 hT (by omega) (fun P1 h1 => ⟨vp_in_nI (by omega) (by decide), ?_, ad_rel ok⟩)
    have e1 := ad_At_i (ad_pth T d) 0 t h1 (by rw [ad_pth_l]; exact ht)
    rw [Nat.zero_add] at e1
    rw [nI_clamp (show t < 2 ^ 31 by omega)]
    exact e1
end
