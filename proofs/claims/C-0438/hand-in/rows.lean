section
theorem pk_us {f : Nat → Int32} {k : Nat} {x : Int32} : upd f k x k = x := if_pos rfl
theorem pk_un {f : Nat → Int32} {k j : Nat} {x : Int32} (h : j ≠ k) : upd f k x j = f j := if_neg h
theorem pk_sub {a b : Nat} (h : b ≤ a) : nI a - nI b = nI (a - b) := by
  obtain ⟨c, rfl⟩ : ∃ c, a = c + b := ⟨a - b, by omega⟩
  rw [← nI_add, Int32.add_sub_cancel, Nat.add_sub_cancel]
theorem pk_m1 (n : Nat) : nI (n + 1) + (-1) = nI n := by
  rw [← nI_1, Int32.add_assoc, show (1 : Int32) + (-1) = 0 from rfl, Int32.add_zero]
theorem pk_mul (a b : Nat) : nI a * nI b = nI (a * b) := (Int32.ofNat_mul a b).symm
theorem pk_div {a d : Nat} (ha : a < 2 ^ 31) (h0 : 0 < d) (hd : d < 2 ^ 31) : nI a / nI d = nI (a / d) := by
  apply Int32.toInt_inj.mp
  rw [lg_idiv_nonneg (by rw [nI_toInt ha]; omega) (by rw [nI_toInt hd]; omega), nI_toInt ha, nI_toInt hd, nI_toInt (Nat.lt_of_le_of_lt (Nat.div_le_self a d) ha)]
  first | rfl | exact (Int.natCast_ediv _ _).symm
theorem pk_rem {a d : Nat} (ha : a < 2 ^ 31) (h0 : 0 < d) (hd : d < 2 ^ 31) : nI a - nI a / nI d * nI d = nI (a % d) := by
  rw [pk_div ha h0 hd, pk_mul, pk_sub (Nat.div_mul_le_self a d)]
  exact congrArg nI (by have := Nat.div_add_mod' a d; omega)
theorem pk_sub_toInt {a b : Nat} (ha : a < 2 ^ 30) (hb : b < 2 ^ 30) : (nI a - nI b).toInt = (a : Int) - b := by
  rw [Int32.toInt_sub, nI_toInt (by omega), nI_toInt (by omega)]
  exact Int.bmod_eq_of_le (by omega) (by omega)
theorem pk_sneg {a b : Nat} (hb : b < 2 ^ 30) (h : a < b) : nI a - nI b < 0 := by
  rw [Int32.lt_iff_toInt_lt, pk_sub_toInt (by omega) hb, show (0 : Int32).toInt = 0 from by decide]
  omega
theorem pk_ix (x : Int32) {n : Nat} (hn : n < 2 ^ 31) : x < 0 ∨ nI n ≤ x ∨ ∃ j : Nat, j < n ∧ x = nI j := by
  by_cases h : x < 0
  · exact Or.inl h
  · obtain ⟨j, hj, rfl⟩ := nI_of h
    by_cases h2 : j < n
    · exact Or.inr (Or.inr ⟨j, h2, rfl⟩)
    · exact Or.inr (Or.inl (nI_le (by omega) hj))
theorem pk_le {x y : Int32} {A B : Prop} (a b : Nat) (f : a ≤ b → A) (g : b < a → B) (hx : x = nI a := by rfl) (hy : y = nI b := by rfl) (ha : a < 2 ^ 31 := by omega) (hb : b < 2 ^ 31 := by omega) : (x ≤ y → A) ∧ (¬ x ≤ y → B) := by
  subst hx hy
  rw [nI_leI ha hb]
  exact ⟨f, fun z => g (by omega)⟩
theorem pk_lt {x y : Int32} {A B : Prop} (a b : Nat) (f : a < b → A) (g : b ≤ a → B) (hx : x = nI a := by rfl) (hy : y = nI b := by rfl) (ha : a < 2 ^ 31 := by omega) (hb : b < 2 ^ 31 := by omega) : (x < y → A) ∧ (¬ x < y → B) := by
  subst hx hy
  rw [nI_ltI ha hb]
  exact ⟨f, fun z => g (by omega)⟩
theorem pk_eq {x y : Int32} {A B : Prop} (a b : Nat) (f : a = b → A) (g : a ≠ b → B) (hx : x = nI a := by rfl) (hy : y = nI b := by rfl) (ha : a < 2 ^ 31 := by omega) (hb : b < 2 ^ 31 := by omega) : (x = y → A) ∧ (¬ x = y → B) := by
  subst hx hy
  rw [nI_eq ha hb]
  exact ⟨f, g⟩
theorem pk_in {x : Int32} (n N : Nat) (h : n < N) (hx : x = nI n := by rfl) (hN : N < 2 ^ 31 := by omega) : vp_in x N := by
  subst hx
  exact vp_in_nI h hN
theorem pk_cl {x : Int32} (n : Nat) (hx : x = nI n := by rfl) (h : n < 2 ^ 31 := by omega) : x.toNatClampNeg = n := by
  subst hx
  exact nI_clamp h
theorem pk_tn {n : Nat} (h : n < 2 ^ 32) : (nI n).toBitVec.toNat = n := Nat.mod_eq_of_lt h
theorem pk_and (x : Int32) {m : Int32} (k : Nat) (hm : m.toBitVec.toNat = 2 ^ k - 1) : x &&& m = nI (x.toBitVec.toNat % 2 ^ k) := by
  apply Int32.toBitVec_inj.mp
  apply BitVec.eq_of_toNat_eq
  rw [Int32.toBitVec_and, BitVec.toNat_and, hm, Nat.and_two_pow_sub_one_eq_mod]
  show _ = (BitVec.ofNat 32 _).toNat
  rw [BitVec.toNat_ofNat]
  exact (Nat.mod_eq_of_lt (Nat.lt_of_le_of_lt (Nat.mod_le _ _) x.toBitVec.isLt)).symm
theorem pk_andN {n : Nat} (h : n < 2 ^ 32) {m : Int32} (k : Nat) (hm : m.toBitVec.toNat = 2 ^ k - 1) : nI n &&& m = nI (n % 2 ^ k) := by
  rw [pk_and _ k hm, pk_tn h]
theorem pk_andE (x : Int32) {m : Int32} (k : Nat) (hm : m.toBitVec.toNat = 2 ^ k - 1) : ∃ j : Nat, j < 2 ^ k ∧ x &&& m = nI j := ⟨_, Nat.mod_lt _ (Nat.two_pow_pos k), pk_and x k hm⟩
theorem pk_andIn (x : Int32) {m : Int32} (k : Nat) (hm : m.toBitVec.toNat = 2 ^ k - 1) (hk : k ≤ 30) : vp_in (x &&& m) (2 ^ k) := by
  obtain ⟨j, hj, e⟩ := pk_andE x k hm
  rw [e]
  exact vp_in_nI hj (Nat.lt_of_le_of_lt (Nat.pow_le_pow_right (by decide) hk) (by decide))
theorem pk_shl (a s : Int32) (k : Nat) (hs : (s.toBitVec.smod 32).toNat = k) : (a <<< s).toBitVec.toNat = a.toBitVec.toNat * 2 ^ k % 2 ^ 32 := by
  show (a.toBitVec <<< (s.toBitVec.smod 32).toNat).toNat = _
  rw [hs, BitVec.toNat_shiftLeft, Nat.shiftLeft_eq]
theorem pk_shlN {n : Nat} (s : Int32) (k : Nat) (hs : (s.toBitVec.smod 32).toNat = k) (h : n * 2 ^ k < 2 ^ 32) : nI n <<< s = nI (n * 2 ^ k) := by
  apply Int32.toBitVec_inj.mp
  apply BitVec.eq_of_toNat_eq
  have hn : n < 2 ^ 32 := Nat.lt_of_le_of_lt (Nat.le_mul_of_pos_right n (Nat.two_pow_pos k)) h
  rw [pk_shl _ _ k hs, pk_tn hn, pk_tn h, Nat.mod_eq_of_lt h]
theorem pk_loop {σ : Type} (W : Nat → Nat → σ → Prop) (I : Nat → σ → Prop) (e i0 : Nat) (s : σ) (hi : i0 ≤ e) (h0 : I i0 s) (hx : ∀ n s, I e s → W (n + 1) e s)
    (hs : ∀ n i s, i < e → I i s → (∀ s', I (i + 1) s' → W n (i + 1) s') → W (n + 1) i s) : ∃ n, W n i0 s :=
  ⟨e + 1, loop_i W I e hx hs (e + 1) i0 s hi (by omega) h0⟩
theorem nx_xor (a b : Nat) : nI a ^^^ nI b = nI (a ^^^ b) := by
  apply Int32.toBitVec_inj.1
  show BitVec.ofNat 32 a ^^^ BitVec.ofNat 32 b = BitVec.ofNat 32 (a ^^^ b)
  apply BitVec.eq_of_getLsbD_eq
  intro i hi
  simp [hi]
end
section
/-! the field of 256 elements: powers of 2 and exponents as one big number each -/
def pa_PT : Nat := 0x8e47add86c361b83cfe9fa7db0582c160b8bcbebfbf3f7f5f47a3d90482412098a45ac562b9bc3eff9f279b259a251a653a7dde070381c0e078dc86432198241ae57a5dc6e3795c46231964babdbe3fff1f67bb3d7e5fc7e3f91c663bfd1e673b7d5e472399249aa55a452299a4da8542a158442219e4fa9da6db85c2e1785cc663397c5ec763b93c7edf87c3e1f81ce67bdd068341a0d884422118643afd9e271b65ba3dfe1fe7fb1d66bbbd3e7fdf0783c1e0f89ca65bc5e2f99c261be5fa1de6fb9d269ba5da05028140a058c46239fc1ee77b5d46a35944a259c4e279dc06030180c06038fc9ea75b45a2d984c261387cde8743a1d8040201008040201
def pa_ET : Nat := 0xaf5850a8eaf4d674e8ade7e6e9d5ae4fd72c757aeb16f50b51a0a99cb05f59cb5a3eccbbb18660fbaa559d29523ba16cf66f0c7fec4917c476a47bb7d8432d1fa2416d4753393c849e5d2a14abd356f261befcdcb2978790cdcfbc955bd13f372e892023d99244117cb4b8267799a5e318fec531edde4a670d63808cf7c0700757a7f373ace5d44e2b79150a9f9b5eca3dba85fa54283a6b6e7e48c3a3b6421e404638835c13d2f1bddb968fce94d03688229110b32598e2fd30dd66628bbf06a672e44d78099ac9b9f9276a7dc2b51d458212f0da8e9335210f24e12f658a05714c08c8f869c11c81ef8d340ee064044bc7681bee33df03c61a320219010000
def pa_pw (n : Nat) : Nat := (pa_PT >>> (8 * n)) % 256
def pa_ex (x : Nat) : Nat := (pa_ET >>> (8 * x)) % 256
def pa_mx (x : Nat) : Nat := if x * 2 ≤ 255 then x * 2 else (x * 2) ^^^ 285
theorem pa_t1 : ∀ n, n < 254 → pa_pw (n + 1) = pa_mx (pa_pw n) := by decide +kernel
theorem pa_t2 : pa_mx (pa_pw 254) = pa_pw 0 := by decide +kernel
theorem pa_t3 : ∀ n, n < 255 → pa_ex (pa_pw n) = n ∧ 0 < pa_pw n := by decide +kernel
theorem pa_t4 : ∀ x, x < 256 → 0 < x → pa_ex x < 255 ∧ pa_pw (pa_ex x) = x := by decide +kernel
theorem pa_pw0 : pa_pw 0 = 1 := by decide +kernel
theorem pa_ex1 : pa_ex 1 = 0 := by decide +kernel
theorem pa_mxb : ∀ x, x < 256 → pa_mx x < 256 ∧ pa_mx x = (x <<< 1) ^^^ (if x.testBit 7 = true then 285 else 0) := by decide +kernel
theorem pa_pwlt (n : Nat) : pa_pw n < 256 := Nat.mod_lt _ (by decide)
theorem pa_xlt {x y : Nat} (hx : x < 256) (hy : y < 256) : x ^^^ y < 256 := Nat.xor_lt_two_pow (n := 8) hx hy
theorem pa_xac (a b c d : Nat) : (a ^^^ b) ^^^ (c ^^^ d) = (a ^^^ c) ^^^ (b ^^^ d) := by
  rw [Nat.xor_assoc, Nat.xor_assoc, ← Nat.xor_assoc b c d, Nat.xor_comm b c, Nat.xor_assoc c b d]
theorem pa_mxl {y z : Nat} (hy : y < 256) (hz : z < 256) : pa_mx (y ^^^ z) = pa_mx y ^^^ pa_mx z := by
  rw [(pa_mxb _ (pa_xlt hy hz)).2, (pa_mxb _ hy).2, (pa_mxb _ hz).2, Nat.shiftLeft_xor_distrib, Nat.testBit_xor, pa_xac]
  congr 1
  cases y.testBit 7 <;> cases z.testBit 7 <;> decide
theorem pa_mxp {k : Nat} (hk : k < 255) : pa_mx (pa_pw k) = pa_pw ((k + 1) % 255) := by
  by_cases h : k < 254
  · rw [← pa_t1 k h, Nat.mod_eq_of_lt (by omega)]
  · have e : k = 254 := by omega
    subst e
    exact pa_t2
def pa_mi : Nat → Nat → Nat
  | 0, y => y
  | n + 1, y => pa_mx (pa_mi n y)
theorem pa_milt {y : Nat} (hy : y < 256) : ∀ n, pa_mi n y < 256
  | 0 => hy
  | n + 1 => (pa_mxb _ (pa_milt hy n)).1
theorem pa_mil {y z : Nat} (hy : y < 256) (hz : z < 256) : ∀ n, pa_mi n (y ^^^ z) = pa_mi n y ^^^ pa_mi n z
  | 0 => rfl
  | n + 1 => by
    show pa_mx (pa_mi n (y ^^^ z)) = pa_mx (pa_mi n y) ^^^ pa_mx (pa_mi n z)
    rw [pa_mil hy hz n, pa_mxl (pa_milt hy n) (pa_milt hz n)]
theorem pa_mi0 : ∀ n, pa_mi n 0 = 0
  | 0 => rfl
  | n + 1 => by
    show pa_mx (pa_mi n 0) = 0
    rw [pa_mi0 n]
    decide
theorem pa_mip {m : Nat} (hm : m < 255) : ∀ n, pa_mi n (pa_pw m) = pa_pw ((n + m) % 255)
  | 0 => by
    show pa_pw m = _
    rw [Nat.zero_add, Nat.mod_eq_of_lt hm]
  | n + 1 => by
    show pa_mx (pa_mi n (pa_pw m)) = _
    rw [pa_mip hm n, pa_mxp (Nat.mod_lt _ (by decide))]
    exact congrArg pa_pw (by omega)
def pa_mul (x y : Nat) : Nat := if x = 0 ∨ y = 0 then 0 else pa_pw ((pa_ex x + pa_ex y) % 255)
def pa_inv (x : Nat) : Nat := pa_pw ((255 - pa_ex x) % 255)
def pa_fac (r b : Nat) : Nat := pa_inv ((8 + r) ^^^ b)
theorem pa_mullt (x y : Nat) : pa_mul x y < 256 := by
  unfold pa_mul
  split
  · decide
  · exact pa_pwlt _
theorem pa_mul0 (y : Nat) : pa_mul 0 y = 0 := if_pos (Or.inl rfl)
theorem pa_m0 (x : Nat) : pa_mul x 0 = 0 := if_pos (Or.inr rfl)
theorem pa_mne {x y : Nat} (hx : x ≠ 0) (hy : y ≠ 0) : pa_mul x y = pa_pw ((pa_ex x + pa_ex y) % 255) := if_neg (by omega)
theorem pa_comm (x y : Nat) : pa_mul x y = pa_mul y x := by
  by_cases hx : x = 0
  · rw [hx, pa_mul0, pa_m0]
  by_cases hy : y = 0
  · rw [hy, pa_mul0, pa_m0]
  rw [pa_mne hx hy, pa_mne hy hx, Nat.add_comm]
theorem pa_mulmi {x y : Nat} (hx : x ≠ 0) (hy : y < 256) : pa_mul x y = pa_mi (pa_ex x) y := by
  by_cases h : y = 0
  · rw [h, pa_m0, pa_mi0]
  · have t := pa_t4 y hy (by omega)
    rw [pa_mne hx h]
    conv => rhs; rw [← t.2]
    rw [pa_mip t.1]
theorem pa_dist {x y z : Nat} (hy : y < 256) (hz : z < 256) : pa_mul x (y ^^^ z) = pa_mul x y ^^^ pa_mul x z := by
  by_cases h : x = 0
  · rw [h, pa_mul0, pa_mul0, pa_mul0]; rfl
  · rw [pa_mulmi h (pa_xlt hy hz), pa_mulmi h hy, pa_mulmi h hz, pa_mil hy hz]
theorem pa_distr {x y z : Nat} (hx : x < 256) (hy : y < 256) : pa_mul (x ^^^ y) z = pa_mul x z ^^^ pa_mul y z := by
  rw [pa_comm, pa_dist hx hy, pa_comm z x, pa_comm z y]
theorem pa_assoc (x y z : Nat) : pa_mul x (pa_mul y z) = pa_mul (pa_mul x y) z := by
  by_cases hx : x = 0
  · rw [hx, pa_mul0, pa_mul0, pa_mul0]
  by_cases hy : y = 0
  · rw [hy, pa_mul0, pa_m0, pa_mul0]
  by_cases hz : z = 0
  · rw [hz, pa_m0, pa_m0, pa_m0]
  have a := pa_t3 ((pa_ex x + pa_ex y) % 255) (Nat.mod_lt _ (by decide))
  have b := pa_t3 ((pa_ex y + pa_ex z) % 255) (Nat.mod_lt _ (by decide))
  rw [pa_mne hx hy, pa_mne hy hz, pa_mne hx (by omega), pa_mne (by omega) hz, a.1, b.1]
  exact congrArg pa_pw (by omega)
theorem pa_1m {x : Nat} (hx : x < 256) : pa_mul 1 x = x := by
  by_cases h : x = 0
  · rw [h, pa_m0]
  · have t := pa_t4 x hx (by omega)
    rw [pa_mne (by decide) h, pa_ex1, Nat.zero_add, Nat.mod_eq_of_lt t.1, t.2]
theorem pa_m1 {x : Nat} (hx : x < 256) : pa_mul x 1 = x := by rw [pa_comm, pa_1m hx]
theorem pa_invlt (x : Nat) : pa_inv x < 256 := pa_pwlt _
theorem pa_invm {x : Nat} (hx : x < 256) (h0 : x ≠ 0) : pa_mul (pa_inv x) x = 1 := by
  have t := pa_t4 x hx (by omega)
  have a := pa_t3 ((255 - pa_ex x) % 255) (Nat.mod_lt _ (by decide))
  have hi : pa_inv x ≠ 0 := by
    show pa_pw _ ≠ 0
    omega
  rw [pa_mne hi h0]
  show pa_pw ((pa_ex (pa_pw ((255 - pa_ex x) % 255)) + pa_ex x) % 255) = 1
  rw [a.1, show ((255 - pa_ex x) % 255 + pa_ex x) % 255 = 0 from by omega, pa_pw0]
theorem pa_faclt (r b : Nat) : pa_fac r b < 256 := pa_pwlt _
theorem pa_mark : ∀ r, r < 4 → ∀ b, b < 6 → 0 < (8 + r) ^^^ b ∧ (8 + r) ^^^ b < 256 := by decide
end
section
/-! xor sums -/
def pa_sum (f : Nat → Nat) : Nat → Nat
  | 0 => 0
  | n + 1 => pa_sum f n ^^^ f n
theorem pa_sumc {f g : Nat → Nat} : ∀ n, (∀ j, j < n → f j = g j) → pa_sum f n = pa_sum g n
  | 0, _ => rfl
  | n + 1, h => by
    show pa_sum f n ^^^ f n = pa_sum g n ^^^ g n
    rw [pa_sumc n (fun j hj => h j (by omega)), h n (by omega)]
theorem pa_sumlt {f : Nat → Nat} : ∀ n, (∀ j, j < n → f j < 256) → pa_sum f n < 256
  | 0, _ => by show (0 : Nat) < 256; decide
  | n + 1, h => pa_xlt (pa_sumlt n (fun j hj => h j (by omega))) (h n (by omega))
theorem pa_sumx (f g : Nat → Nat) : ∀ n, pa_sum (fun j => f j ^^^ g j) n = pa_sum f n ^^^ pa_sum g n
  | 0 => by
    show (0 : Nat) = 0 ^^^ 0
    decide
  | n + 1 => by
    show pa_sum (fun j => f j ^^^ g j) n ^^^ (f n ^^^ g n) = (pa_sum f n ^^^ f n) ^^^ (pa_sum g n ^^^ g n)
    rw [pa_sumx f g n, pa_xac]
theorem pa_summ (x : Nat) {f : Nat → Nat} : ∀ n, (∀ j, j < n → f j < 256) → pa_mul x (pa_sum f n) = pa_sum (fun j => pa_mul x (f j)) n
  | 0, _ => pa_m0 x
  | n + 1, h => by
    show pa_mul x (pa_sum f n ^^^ f n) = pa_sum (fun j => pa_mul x (f j)) n ^^^ pa_mul x (f n)
    rw [pa_dist (pa_sumlt n (fun j hj => h j (by omega))) (h n (by omega)), pa_summ x n (fun j hj => h j (by omega))]
theorem pa_sumz {f : Nat → Nat} : ∀ n, (∀ j, j < n → f j = 0) → pa_sum f n = 0
  | 0, _ => rfl
  | n + 1, h => by
    show pa_sum f n ^^^ f n = 0
    rw [pa_sumz n (fun j hj => h j (by omega)), h n (by omega)]
    rfl
/-- one place changed -/
theorem pa_sumu {f g : Nat → Nat} {b : Nat} : ∀ n, b < n → (∀ j, j < n → j ≠ b → g j = f j) → pa_sum g n = pa_sum f n ^^^ (f b ^^^ g b)
  | 0, hb, _ => absurd hb (Nat.not_lt_zero b)
  | n + 1, hb, h => by
    show pa_sum g n ^^^ g n = (pa_sum f n ^^^ f n) ^^^ (f b ^^^ g b)
    by_cases e : b = n
    · subst e
      rw [pa_sumc (f := g) (g := f) b (fun j hj => h j (by omega) (by omega)), Nat.xor_assoc, ← Nat.xor_assoc (f b) (f b), Nat.xor_self, Nat.zero_xor]
    · rw [pa_sumu n (by omega) (fun j hj hn => h j (by omega) hn), h n (by omega) (by omega), Nat.xor_assoc, Nat.xor_comm (f b ^^^ g b) (f n), ← Nat.xor_assoc]
theorem pa_sum1 {v : Nat → Nat} {g n : Nat} (hg : g < n) (hv : v g < 256) : pa_sum (fun j => pa_mul (if g = j then 1 else 0) (v j)) n = v g := by
  rw [pa_sumu (f := fun _ => 0) (b := g) n hg (fun j _ hn => by
    show pa_mul (if g = j then 1 else 0) (v j) = 0
    rw [if_neg (fun h => hn h.symm), pa_mul0]), pa_sumz n (fun _ _ => rfl), Nat.zero_xor, Nat.zero_xor]
  show pa_mul (if g = g then 1 else 0) (v g) = v g
  rw [if_pos rfl, pa_1m hv]
/-! the non-zero places of an array: their count below n, and the j-th of them -/
def pa_cn (S : Nat → Int32) : Nat → Nat
  | 0 => 0
  | n + 1 => if S n = 0 then pa_cn S n else pa_cn S n + 1
def pa_en (S : Nat → Int32) : Nat → Nat → Nat
  | 0, _ => 0
  | n + 1, j => if ¬ S n = 0 ∧ j = pa_cn S n then n else pa_en S n j
theorem pa_cnz {S : Nat → Int32} {n : Nat} (h : S n = 0) : pa_cn S (n + 1) = pa_cn S n := if_pos h
theorem pa_cns {S : Nat → Int32} {n : Nat} (h : ¬ S n = 0) : pa_cn S (n + 1) = pa_cn S n + 1 := if_neg h
theorem pa_enz {S : Nat → Int32} {n j : Nat} (h : S n = 0) : pa_en S (n + 1) j = pa_en S n j := if_neg (fun z => z.1 h)
theorem pa_ens {S : Nat → Int32} {n : Nat} (h : ¬ S n = 0) : pa_en S (n + 1) (pa_cn S n) = n := if_pos ⟨h, rfl⟩
theorem pa_enn {S : Nat → Int32} {n j : Nat} (h : j < pa_cn S n) : pa_en S (n + 1) j = pa_en S n j := if_neg (fun z => by have := z.2; omega)
theorem pa_cnle (S : Nat → Int32) : ∀ n, pa_cn S n ≤ n
  | 0 => Nat.le_refl 0
  | n + 1 => by
    have := pa_cnle S n
    by_cases h : S n = 0
    · rw [pa_cnz h]; omega
    · rw [pa_cns h]; omega
theorem pa_cns1 (S : Nat → Int32) (n : Nat) : pa_cn S n ≤ pa_cn S (n + 1) := by
  by_cases h : S n = 0
  · rw [pa_cnz h]; omega
  · rw [pa_cns h]; omega
theorem pa_cnm (S : Nat → Int32) {a : Nat} : ∀ b, a ≤ b → pa_cn S a ≤ pa_cn S b
  | 0, h => by
    have e : a = 0 := by omega
    rw [e]; exact Nat.le_refl _
  | b + 1, h => by
    by_cases e : a = b + 1
    · rw [e]; exact Nat.le_refl _
    · exact Nat.le_trans (pa_cnm S b (by omega)) (pa_cns1 S b)
theorem pa_cnc {S S' : Nat → Int32} : ∀ n, (∀ j, j < n → (S j = 0 ↔ S' j = 0)) → pa_cn S n = pa_cn S' n
  | 0, _ => rfl
  | n + 1, h => by
    have ih := pa_cnc n (fun j hj => h j (by omega))
    have hn := h n (by omega)
    by_cases z : S n = 0
    · rw [pa_cnz z, pa_cnz (hn.mp z), ih]
    · rw [pa_cns z, pa_cns (fun y => z (hn.mpr y)), ih]
theorem pa_cnp {S : Nat → Int32} {b n : Nat} (hb : b < n) (h : ¬ S b = 0) : pa_cn S b < pa_cn S n := by
  have a := pa_cnm S n (show b + 1 ≤ n from hb)
  rw [pa_cns h] at a
  omega
theorem pa_cn0 {S : Nat → Int32} : ∀ n, pa_cn S n = 0 → ∀ j, j < n → S j = 0 := by
  intro n hn j hj
  by_cases h : S j = 0
  · exact h
  · have := pa_cnp hj h
    omega
/-- the j-th place is below n, non-zero, and j others lie ahead of it -/
theorem pa_enp {S : Nat → Int32} : ∀ n j, j < pa_cn S n → pa_en S n j < n ∧ ¬ S (pa_en S n j) = 0 ∧ pa_cn S (pa_en S n j) = j
  | 0, j, h => absurd h (Nat.not_lt_zero j)
  | n + 1, j, h => by
    by_cases z : S n = 0
    · rw [pa_cnz z] at h
      have ih := pa_enp n j h
      rw [pa_enz z]
      exact ⟨by omega, ih.2⟩
    · rw [pa_cns z] at h
      by_cases e : j = pa_cn S n
      · rw [e, pa_ens z]
        exact ⟨by omega, z, rfl⟩
      · have ih := pa_enp (S := S) n j (by omega)
        rw [pa_enn (by omega)]
        exact ⟨by omega, ih.2⟩
theorem pa_ene {S : Nat → Int32} {b : Nat} (h : ¬ S b = 0) : ∀ n, b < n → pa_en S n (pa_cn S b) = b
  | 0, hb => absurd hb (Nat.not_lt_zero b)
  | n + 1, hb => by
    by_cases e : b = n
    · rw [e]; rw [e] at h; exact pa_ens h
    · rw [pa_enn (pa_cnp (by omega) h)]
      exact pa_ene h n (by omega)
theorem pa_enm {S : Nat → Int32} {n j : Nat} (h : j < pa_cn S n) : ∀ d, pa_en S (n + d) j = pa_en S n j
  | 0 => rfl
  | d + 1 => by
    show pa_en S (n + d + 1) j = _
    rw [pa_enn (Nat.lt_of_lt_of_le h (pa_cnm S _ (by omega))), pa_enm h d]
theorem pa_eni {S : Nat → Int32} {n i j : Nat} (hij : i < j) (h : j < pa_cn S n) : pa_en S n i < pa_en S n j := by
  have a := pa_enp (S := S) n i (by omega)
  have b := pa_enp n j h
  by_cases z : pa_en S n i < pa_en S n j
  · exact z
  · have := pa_cnm S (pa_en S n i) (show pa_en S n j ≤ pa_en S n i from by omega)
    omega
/-- a sum over the non-zero places alone is a sum over their list -/
theorem pa_sumf {S : Nat → Int32} {F : Nat → Nat} : ∀ n, pa_sum (fun b => if S b = 0 then 0 else F b) n = pa_sum (fun j => F (pa_en S n j)) (pa_cn S n)
  | 0 => rfl
  | n + 1 => by
    show pa_sum (fun b => if S b = 0 then 0 else F b) n ^^^ (if S n = 0 then 0 else F n) = _
    rw [pa_sumf n]
    by_cases z : S n = 0
    · rw [if_pos z, Nat.xor_zero, pa_cnz z]
      exact pa_sumc _ (fun j _ => by rw [pa_enz z])
    · rw [if_neg z, pa_cns z]
      show _ = pa_sum (fun j => F (pa_en S (n + 1) j)) (pa_cn S n) ^^^ F (pa_en S (n + 1) (pa_cn S n))
      rw [pa_ens z]
      congr 1
      exact pa_sumc _ (fun j hj => by rw [pa_enn hj])
end
section
/-! elimination without swaps, as a function -/
def pa_M (A : Nat → Nat → Nat) : Nat → Nat → Nat → Nat
  | 0, g, j => A g j
  | k + 1, g, j => if g = k then pa_mul (pa_inv (pa_M A k k k)) (pa_M A k k j) else pa_M A k g j ^^^ pa_mul (pa_M A k g k) (pa_mul (pa_inv (pa_M A k k k)) (pa_M A k k j))
theorem pa_Mk (A : Nat → Nat → Nat) (k j : Nat) : pa_M A (k + 1) k j = pa_mul (pa_inv (pa_M A k k k)) (pa_M A k k j) := if_pos rfl
theorem pa_Mg (A : Nat → Nat → Nat) {k g : Nat} (j : Nat) (h : g ≠ k) : pa_M A (k + 1) g j = pa_M A k g j ^^^ pa_mul (pa_M A k g k) (pa_mul (pa_inv (pa_M A k k k)) (pa_M A k k j)) := if_neg h
theorem pa_Mc {A B : Nat → Nat → Nat} {w : Nat} (h : ∀ g j, g < w → j < w → A g j = B g j) : ∀ k, k ≤ w → ∀ g j, g < w → j < w → pa_M A k g j = pa_M B k g j
  | 0, _, g, j, hg, hj => h g j hg hj
  | k + 1, hk, g, j, hg, hj => by
    by_cases e : g = k
    · rw [e, pa_Mk, pa_Mk, pa_Mc h k (by omega) k k (by omega) (by omega), pa_Mc h k (by omega) k j (by omega) hj]
    · rw [pa_Mg A j e, pa_Mg B j e, pa_Mc h k (by omega) k k (by omega) (by omega), pa_Mc h k (by omega) k j (by omega) hj, pa_Mc h k (by omega) g j hg hj, pa_Mc h k (by omega) g k hg (by omega)]
theorem pa_Mlt {A : Nat → Nat → Nat} {m : Nat} (h : ∀ g j, g < m → j < m → A g j < 256) : ∀ k g j, g < m → j < m → pa_M A k g j < 256
  | 0, g, j, hg, hj => h g j hg hj
  | k + 1, g, j, hg, hj => by
    by_cases e : g = k
    · rw [e, pa_Mk]; exact pa_mullt _ _
    · rw [pa_Mg A j e]; exact pa_xlt (pa_Mlt h k g j hg hj) (pa_mullt _ _)
theorem pa_col {A : Nat → Nat → Nat} {m : Nat} (hA : ∀ g j, g < m → j < m → A g j < 256) (hp : ∀ k, k < m → pa_M A k k k ≠ 0) : ∀ k, k ≤ m → ∀ g c, g < m → c < k → pa_M A k g c = if g = c then 1 else 0
  | 0, _, g, c, _, hc => absurd hc (Nat.not_lt_zero c)
  | k + 1, hk, g, c, hg, hc => by
    have ih := pa_col hA hp k (by omega)
    have hkk := pa_Mlt hA k k k (by omega) (by omega)
    by_cases e : c = k
    · rw [e]
      by_cases f : g = k
      · rw [f, pa_Mk, if_pos rfl, pa_invm hkk (hp k (by omega))]
      · rw [pa_Mg A k f, if_neg f, pa_invm hkk (hp k (by omega)), pa_m1 (pa_Mlt hA k g k hg (by omega)), Nat.xor_self]
    · have z := ih k c (by omega) (by omega)
      rw [if_neg (fun h => e h.symm)] at z
      by_cases f : g = k
      · rw [f, pa_Mk, z, pa_m0, if_neg (fun h => e h.symm)]
      · rw [pa_Mg A c f, z, pa_m0, pa_m0, Nat.xor_zero]
        exact ih g c hg (by omega)
/-! the factors: no pivot is 0 -/
def pa_A (us ms : Nat → Nat) (g j : Nat) : Nat := pa_fac (us g) (ms j)
def pa_sel (a b c d j : Nat) : Nat := if j = 0 then a else if j = 1 then b else if j = 2 then c else d
theorem pa_sele (f : Nat → Nat) {g : Nat} (hg : g < 4) : pa_sel (f 0) (f 1) (f 2) (f 3) g = f g := by
  have h : g = 0 ∨ g = 1 ∨ g = 2 ∨ g = 3 := by omega
  rcases h with h | h | h | h <;> rw [h] <;> rfl
theorem pa_p0 : ∀ u0, u0 < 4 → ∀ b0, b0 < 6 → ∀ x, x < 1 → pa_M (pa_A (pa_sel u0 0 0 0) (pa_sel b0 0 0 0)) 0 0 0 ≠ 0 := by decide +kernel
theorem pa_p1 : ∀ u1, u1 < 4 → ∀ u0, u0 < u1 → ∀ b1, b1 < 6 → ∀ b0, b0 < b1 → pa_M (pa_A (pa_sel u0 u1 0 0) (pa_sel b0 b1 0 0)) 1 1 1 ≠ 0 := by decide +kernel
def pa_all (f : Nat → Bool) : Nat → Bool
  | 0 => true
  | n + 1 => f n && pa_all f n
theorem pa_alle {f : Nat → Bool} : ∀ {n : Nat}, pa_all f n = true → ∀ i, i < n → f i = true
  | 0, _, i, h => absurd h (Nat.not_lt_zero i)
  | n + 1, e, i, h => by
    have e' : (f n && pa_all f n) = true := e
    rw [Bool.and_eq_true] at e'
    by_cases z : i = n
    · rw [z]; exact e'.1
    · exact pa_alle e'.2 i (by omega)
theorem pa_p2' : pa_all (fun u2 => pa_all (fun u1 => pa_all (fun u0 => pa_all (fun b2 => pa_all (fun b1 => pa_all (fun b0 => decide (pa_M (pa_A (pa_sel u0 u1 u2 0) (pa_sel b0 b1 b2 0)) 2 2 2 ≠ 0)) b1) b2) 6) u1) u2) 4 = true := by decide +kernel
theorem pa_p3' : pa_all (fun u3 => pa_all (fun u2 => pa_all (fun u1 => pa_all (fun u0 => pa_all (fun b3 => pa_all (fun b2 => pa_all (fun b1 => pa_all (fun b0 => decide (pa_M (pa_A (pa_sel u0 u1 u2 u3) (pa_sel b0 b1 b2 b3)) 3 3 3 ≠ 0)) b1) b2) b3) 6) u1) u2) u3) 4 = true := by decide +kernel
theorem pa_p2 : ∀ u2, u2 < 4 → ∀ u1, u1 < u2 → ∀ u0, u0 < u1 → ∀ b2, b2 < 6 → ∀ b1, b1 < b2 → ∀ b0, b0 < b1 → pa_M (pa_A (pa_sel u0 u1 u2 0) (pa_sel b0 b1 b2 0)) 2 2 2 ≠ 0 := fun u2 h2 u1 h1 u0 h0 b2 c2 b1 c1 b0 c0 => of_decide_eq_true (pa_alle (pa_alle (pa_alle (pa_alle (pa_alle (pa_alle pa_p2' u2 h2) u1 h1) u0 h0) b2 c2) b1 c1) b0 c0)
theorem pa_p3 : ∀ u3, u3 < 4 → ∀ u2, u2 < u3 → ∀ u1, u1 < u2 → ∀ u0, u0 < u1 → ∀ b3, b3 < 6 → ∀ b2, b2 < b3 → ∀ b1, b1 < b2 → ∀ b0, b0 < b1 → pa_M (pa_A (pa_sel u0 u1 u2 u3) (pa_sel b0 b1 b2 b3)) 3 3 3 ≠ 0 := fun u3 h3 u2 h2 u1 h1 u0 h0 b3 c3 b2 c2 b1 c1 b0 c0 => of_decide_eq_true (pa_alle (pa_alle (pa_alle (pa_alle (pa_alle (pa_alle (pa_alle (pa_alle pa_p3' u3 h3) u2 h2) u1 h1) u0 h0) b3 c3) b2 c2) b1 c1) b0 c0)
theorem pa_piv {us ms : Nat → Nat} {m : Nat} (hm : m ≤ 4) (hu : ∀ j, j < m → us j < 4) (hui : ∀ i j, i < j → j < m → us i < us j) (hb : ∀ j, j < m → ms j < 6) (hbi : ∀ i j, i < j → j < m → ms i < ms j) : ∀ k, k < m → pa_M (pa_A us ms) k k k ≠ 0 := by
  intro k hk
  have h : k = 0 ∨ k = 1 ∨ k = 2 ∨ k = 3 := by omega
  rcases h with h | h | h | h <;> subst h
  · rw [pa_Mc (w := 1) (B := pa_A (pa_sel (us 0) 0 0 0) (pa_sel (ms 0) 0 0 0)) (fun g j hg hj => by
      have eg : g = 0 := by omega
      have ej : j = 0 := by omega
      rw [eg, ej]; rfl) 0 (by omega) 0 0 (by omega) (by omega)]
    exact pa_p0 (us 0) (hu 0 hk) (ms 0) (hb 0 hk) 0 (by omega)
  · rw [pa_Mc (w := 2) (B := pa_A (pa_sel (us 0) (us 1) 0 0) (pa_sel (ms 0) (ms 1) 0 0)) (fun g j hg hj => by
      have eg : g = 0 ∨ g = 1 := by omega
      have ej : j = 0 ∨ j = 1 := by omega
      rcases eg with eg | eg <;> rcases ej with ej | ej <;> rw [eg, ej] <;> rfl) 1 (by omega) 1 1 (by omega) (by omega)]
    exact pa_p1 (us 1) (hu 1 hk) (us 0) (hui 0 1 (by omega) hk) (ms 1) (hb 1 hk) (ms 0) (hbi 0 1 (by omega) hk)
  · rw [pa_Mc (w := 3) (B := pa_A (pa_sel (us 0) (us 1) (us 2) 0) (pa_sel (ms 0) (ms 1) (ms 2) 0)) (fun g j hg hj => by
      have eg : g = 0 ∨ g = 1 ∨ g = 2 := by omega
      have ej : j = 0 ∨ j = 1 ∨ j = 2 := by omega
      rcases eg with eg | eg | eg <;> rcases ej with ej | ej | ej <;> rw [eg, ej] <;> rfl) 2 (by omega) 2 2 (by omega) (by omega)]
    exact pa_p2 (us 2) (hu 2 hk) (us 1) (hui 1 2 (by omega) hk) (us 0) (hui 0 1 (by omega) (by omega)) (ms 2) (hb 2 hk) (ms 1) (hbi 1 2 (by omega) hk) (ms 0) (hbi 0 1 (by omega) (by omega))
  · rw [pa_Mc (w := 4) (B := pa_A (pa_sel (us 0) (us 1) (us 2) (us 3)) (pa_sel (ms 0) (ms 1) (ms 2) (ms 3))) (fun g j hg hj => by
      show pa_fac _ _ = pa_fac _ _
      rw [pa_sele us hg, pa_sele ms hj]) 3 (by omega) 3 3 (by omega) (by omega)]
    exact pa_p3 (us 3) (hu 3 hk) (us 2) (hui 2 3 (by omega) hk) (us 1) (hui 1 2 (by omega) (by omega)) (us 0) (hui 0 1 (by omega) (by omega)) (ms 3) (hb 3 hk) (ms 2) (hbi 2 3 (by omega) hk) (ms 1) (hbi 1 2 (by omega) (by omega)) (ms 0) (hbi 0 1 (by omega) (by omega))
/-! the equations: factors, then the right sides, which the true bytes v j i solve at every stage -/
def pa_CT (m : Nat) (A v : Nat → Nat → Nat) (k g c : Nat) : Nat := if c < m then pa_M A k g c else pa_sum (fun j => pa_mul (pa_M A k g j) (v j (c - m))) m
theorem pa_CTl {m : Nat} {A v : Nat → Nat → Nat} {k g c : Nat} (h : c < m) : pa_CT m A v k g c = pa_M A k g c := if_pos h
theorem pa_CTr {m : Nat} {A v : Nat → Nat → Nat} {k g c : Nat} (h : m ≤ c) : pa_CT m A v k g c = pa_sum (fun j => pa_mul (pa_M A k g j) (v j (c - m))) m := if_neg (by omega)
theorem pa_CTlt {m : Nat} {A v : Nat → Nat → Nat} (hA : ∀ g j, g < m → j < m → A g j < 256) (k : Nat) {g : Nat} (c : Nat) (hg : g < m) : pa_CT m A v k g c < 256 := by
  by_cases h : c < m
  · rw [pa_CTl h]; exact pa_Mlt hA k g c hg h
  · rw [pa_CTr (by omega)]; exact pa_sumlt m (fun j _ => pa_mullt _ _)
theorem pa_CTk {m : Nat} {A v : Nat → Nat → Nat} (k c : Nat) : pa_CT m A v (k + 1) k c = pa_mul (pa_inv (pa_M A k k k)) (pa_CT m A v k k c) := by
  by_cases h : c < m
  · rw [pa_CTl h, pa_CTl h, pa_Mk]
  · rw [pa_CTr (by omega), pa_CTr (by omega), pa_summ _ m (fun j _ => pa_mullt _ _)]
    exact pa_sumc m (fun j _ => by rw [pa_Mk, pa_assoc])
theorem pa_CTg {m : Nat} {A v : Nat → Nat → Nat} (hA : ∀ g j, g < m → j < m → A g j < 256) {k g : Nat} (c : Nat) (hg : g < m) (h : g ≠ k) : pa_CT m A v (k + 1) g c = pa_CT m A v k g c ^^^ pa_mul (pa_M A k g k) (pa_mul (pa_inv (pa_M A k k k)) (pa_CT m A v k k c)) := by
  by_cases hc : c < m
  · rw [pa_CTl hc, pa_CTl hc, pa_CTl hc, pa_Mg A c h]
  · rw [pa_CTr (by omega), pa_CTr (by omega), pa_CTr (by omega), pa_summ _ m (fun j _ => pa_mullt _ _), pa_summ _ m (fun j _ => pa_mullt _ _), ← pa_sumx]
    exact pa_sumc m (fun j hj => by rw [pa_Mg A j h, pa_distr (pa_Mlt hA k g j hg hj) (pa_mullt _ _), pa_assoc, pa_assoc, pa_assoc])
theorem pa_CTm {m : Nat} {A v : Nat → Nat → Nat} (hA : ∀ g j, g < m → j < m → A g j < 256) (hp : ∀ k, k < m → pa_M A k k k ≠ 0) {g i : Nat} (hg : g < m) (hv : v g i < 256) : pa_CT m A v m g (m + i) = v g i := by
  rw [pa_CTr (by omega), show m + i - m = i from by omega]
  rw [pa_sumc (g := fun j => pa_mul (if g = j then 1 else 0) ((fun q => v q i) j)) m (fun j hj => by rw [pa_col hA hp m (Nat.le_refl m) g j hg hj])]
  exact pa_sum1 (v := fun q => v q i) hg hv
/-- the recovery byte -/
def pa_rs (rl : Nat → Nat) (r i : Nat) : Nat := pa_sum (fun b => pa_mul (pa_fac r b) (rl (b * 8 + i))) 6
theorem pa_rslt (rl : Nat → Nat) (r i : Nat) : pa_rs rl r i < 256 := pa_sumlt 6 (fun _ _ => pa_mullt _ _)
/-- the recovery byte less the good blocks' part -/
theorem pa_rest (rl : Nat → Nat) (S : Nat → Int32) (r i : Nat) : pa_rs rl r i ^^^ pa_sum (fun b => if S b = 0 then pa_mul (pa_fac r b) (rl (b * 8 + i)) else 0) 6 = pa_sum (fun j => pa_mul (pa_fac r (pa_en S 6 j)) (rl (pa_en S 6 j * 8 + i))) (pa_cn S 6) := by
  rw [← pa_sumf (S := S) (F := fun b => pa_mul (pa_fac r b) (rl (b * 8 + i))) 6]
  unfold pa_rs
  rw [← pa_sumx]
  refine pa_sumc 6 (fun b _ => ?_)
  show pa_mul (pa_fac r b) (rl (b * 8 + i)) ^^^ (if S b = 0 then pa_mul (pa_fac r b) (rl (b * 8 + i)) else 0) = if S b = 0 then 0 else pa_mul (pa_fac r b) (rl (b * 8 + i))
  by_cases z : S b = 0
  · rw [if_pos z, if_pos z, Nat.xor_self]
  · rw [if_neg z, if_neg z, Nat.xor_zero]
end
section
/-! indices -/
theorem pa_i8 (a b : Nat) : nI a * 8 + nI b = nI (a * 8 + b) := by
  rw [show nI a * 8 = nI (a * 8) from pk_mul a 8, nI_add]
theorem pa_i12 (a b : Nat) : nI a * 12 + nI b = nI (a * 12 + b) := by
  rw [show nI a * 12 = nI (a * 12) from pk_mul a 12, nI_add]
theorem pa_c8 {a b : Nat} (ha : a < 1000) (hb : b < 1000) : (nI a * 8 + nI b).toNatClampNeg = a * 8 + b := by
  rw [pa_i8, nI_clamp (by omega)]
theorem pa_c12 {a b : Nat} (ha : a < 1000) (hb : b < 1000) : (nI a * 12 + nI b).toNatClampNeg = a * 12 + b := by
  rw [pa_i12, nI_clamp (by omega)]
theorem pa_n8 {a b N : Nat} (h : a * 8 + b < N) (hN : N < 1000) : vp_in (nI a * 8 + nI b) N := by
  rw [pa_i8]; exact vp_in_nI h (by omega)
theorem pa_n12 {a b N : Nat} (h : a * 12 + b < N) (hN : N < 1000) : vp_in (nI a * 12 + nI b) N := by
  rw [pa_i12]; exact vp_in_nI h (by omega)
theorem pa_b1 : vp_nar .boolean 1 = 1 := rfl
theorem pa_b0 : vp_nar .boolean 0 = 0 := rfl
/-- what lies outside a range of blocks -/
theorem pa_out (x : Int32) : (x < 0 ∧ ¬ 0 ≤ x) ∨ (¬ x < 0 ∧ ¬ x < 6 ∧ ¬ x ≤ 5) ∨ ∃ j : Nat, j < 6 ∧ x = nI j := by
  have e0 : (0 : Int32).toInt = 0 := by decide
  have e6 : (6 : Int32).toInt = 6 := by decide
  have e5 : (5 : Int32).toInt = 5 := by decide
  by_cases h : x < 0
  · refine Or.inl ⟨h, ?_⟩
    rw [Int32.lt_iff_toInt_lt] at h
    rw [Int32.le_iff_toInt_le]
    omega
  · by_cases h6 : x < 6
    · obtain ⟨j, hj, rfl⟩ := nI_of h
      exact Or.inr (Or.inr ⟨j, (nI_ltI (b := 6) hj (by decide)).mp h6, rfl⟩)
    · refine Or.inr (Or.inl ⟨h, h6, ?_⟩)
      rw [Int32.lt_iff_toInt_lt] at h6
      rw [Int32.le_iff_toInt_le]
      omega
theorem pa_outp (x : Int32) : (x < 0 ∧ ¬ 0 ≤ x) ∨ (¬ x < 0 ∧ ¬ x < 8 ∧ ¬ x ≤ 7) ∨ ∃ j : Nat, j < 8 ∧ x = nI j := by
  have e0 : (0 : Int32).toInt = 0 := by decide
  have e6 : (8 : Int32).toInt = 8 := by decide
  have e5 : (7 : Int32).toInt = 7 := by decide
  by_cases h : x < 0
  · refine Or.inl ⟨h, ?_⟩
    rw [Int32.lt_iff_toInt_lt] at h
    rw [Int32.le_iff_toInt_le]
    omega
  · by_cases h6 : x < 8
    · obtain ⟨j, hj, rfl⟩ := nI_of h
      exact Or.inr (Or.inr ⟨j, (nI_ltI (b := 8) hj (by decide)).mp h6, rfl⟩)
    · refine Or.inr (Or.inl ⟨h, h6, ?_⟩)
      rw [Int32.lt_iff_toInt_lt] at h6
      rw [Int32.le_iff_toInt_le]
      omega
/-! the tables, the field's methods -/
def pa_Tab (P E : Nat → Int32) : Prop := (∀ j, j < 255 → P j = nI (pa_pw j)) ∧ (∀ x, 0 < x → x < 256 → E x = nI (pa_ex x))
section
variable {fr fm : Int32} {P E D T C R RT MB UR Q : Nat → Int32}
theorem pa_xtimes {post : Int32 → Prop} {a b : Int32} {x y : Nat} (hT : pa_Tab P E) (hx : x < 256) (hy : y < 256) (ea : a = nI x) (eb : b = nI y) (h : post (nI (pa_mul x y))) : wpX_times post (fr, fm, P, E, D, T, C, R, RT, MB, UR, Q) a b := by
  subst ea eb
  by_cases zx : x = 0
  · subst zx
    rw [pa_mul0] at h
    exact br_t nI_0 h
  · refine br_f (nI_ne0 (by omega) (by omega)) ?_
    by_cases zy : y = 0
    · subst zy
      rw [pa_m0] at h
      exact br_t nI_0 h
    · have tx := pa_t4 x hx (by omega)
      have ty := pa_t4 y hy (by omega)
      rw [pa_mne zx zy] at h
      have e1 : E (nI x).toNatClampNeg + E (nI y).toNatClampNeg = nI (pa_ex x + pa_ex y) := by
        rw [nI_clamp (by omega), nI_clamp (by omega), hT.2 x (by omega) hx, hT.2 y (by omega) hy, nI_add]
      have e : (E (nI x).toNatClampNeg + E (nI y).toNatClampNeg) - (E (nI x).toNatClampNeg + E (nI y).toNatClampNeg) / 255 * 255 = nI ((pa_ex x + pa_ex y) % 255) := by
        rw [e1]
        exact pk_rem (d := 255) (by omega) (by decide) (by decide)
      have hm : (pa_ex x + pa_ex y) % 255 < 255 := Nat.mod_lt _ (by decide)
      refine br_f (nI_ne0 (by omega) (by omega)) ⟨vp_in_nI hx (by decide), vp_in_nI hy (by decide), by decide, ?_, ?_⟩
      · rw [e]; exact vp_in_nI (by omega) (by decide)
      · rw [e, nI_clamp (by omega), hT.1 _ hm]; exact h
theorem pa_xinv {post : Int32 → Prop} {a : Int32} {x : Nat} (hT : pa_Tab P E) (hx : x < 256) (h0 : x ≠ 0) (ea : a = nI x) (h : post (nI (pa_inv x))) : wpX_inverse post (fr, fm, P, E, D, T, C, R, RT, MB, UR, Q) a := by
  subst ea
  have tx := pa_t4 x hx (by omega)
  have e1 : 255 - E (nI x).toNatClampNeg = nI (255 - pa_ex x) := by
    rw [nI_clamp (by omega), hT.2 x (by omega) hx]
    exact pk_sub (a := 255) (by omega)
  have e : (255 - E (nI x).toNatClampNeg) - (255 - E (nI x).toNatClampNeg) / 255 * 255 = nI ((255 - pa_ex x) % 255) := by
    rw [e1]
    exact pk_rem (d := 255) (by omega) (by decide) (by decide)
  have hm : (255 - pa_ex x) % 255 < 255 := Nat.mod_lt _ (by decide)
  refine And.intro (vp_in_nI hx (by decide)) ⟨by decide, ?_, ?_⟩
  · rw [e]; exact vp_in_nI (by omega) (by decide)
  · rw [e, nI_clamp (by omega), hT.1 _ hm]; exact h
theorem pa_xfac {post : Int32 → Prop} {a b : Int32} {x y : Nat} (hT : pa_Tab P E) (hx : x < 4) (hy : y < 6) (ea : a = nI x) (eb : b = nI y) (h : post (nI (pa_fac x y))) : wpX_factor post (fr, fm, P, E, D, T, C, R, RT, MB, UR, Q) a b := by
  subst ea eb
  have mk := pa_mark x hx y hy
  have e : (8 + nI x) ^^^ nI y = nI ((8 + x) ^^^ y) := by
    rw [show 8 + nI x = nI (8 + x) from nI_add 8 x, nx_xor]
  unfold wpX_factor
  dsimp only
  exact pa_xinv hT mk.2 (by omega) e h
theorem pa_xbb {post : Int32 → Prop} {b : Nat} (hb : b < 6) (h : post 0) : wpX_badBlock post (nI b) := br_f (nI_pos (by omega)) (br_t (nI_lt (b := 6) hb (by decide)) h)
theorem pa_xbp {post : Int32 → Prop} {b : Nat} (hb : b < 8) (h : post 0) : wpX_badPlace post (nI b) := br_f (nI_pos (by omega)) (br_t (nI_lt (b := 8) hb (by decide)) h)
/-! check values and states -/
def pa_cs (D : Nat → Int32) (o : Nat) : Nat → Int32
  | 0 => 17
  | n + 1 => pa_cs D o n * 16777619 + D (o + n)
def pa_ck (D : Nat → Int32) (b : Nat) : Int32 := pa_cs D (b * 8) 8
theorem pa_csc {D D' : Nat → Int32} {o : Nat} : ∀ n, (∀ i, i < n → D (o + i) = D' (o + i)) → pa_cs D o n = pa_cs D' o n
  | 0, _ => rfl
  | n + 1, h => by
    show pa_cs D o n * 16777619 + D (o + n) = pa_cs D' o n * 16777619 + D' (o + n)
    rw [pa_csc n (fun i hi => h i (by omega)), h n (by omega)]
theorem pa_ckc {D D' : Nat → Int32} {b : Nat} (h : ∀ i, i < 8 → D (b * 8 + i) = D' (b * 8 + i)) : pa_ck D b = pa_ck D' b := pa_csc 8 h
theorem pa_odd {x y d e : Int32} (h : x * 16777619 + d = y * 16777619 + e) (hd : d = e) : x = y := by
  subst hd
  have h1 : x * 16777619 = y * 16777619 := by
    have h2 := congrArg (fun z => z - d) h
    simpa using h2
  have h3 : (16777619 : Int32) * 899433627 = 1 := by decide
  have h4 := congrArg (fun z => z * 899433627) h1
  rw [Int32.mul_assoc, Int32.mul_assoc, h3, Int32.mul_one, Int32.mul_one] at h4
  exact h4
theorem pa_csn {D D' : Nat → Int32} {o p : Nat} (hp : D (o + p) ≠ D' (o + p)) : ∀ n, p < n → (∀ i, i < n → i ≠ p → D (o + i) = D' (o + i)) → pa_cs D o n ≠ pa_cs D' o n
  | 0, h, _ => absurd h (Nat.not_lt_zero p)
  | n + 1, h, hi => by
    intro e
    have e' : pa_cs D o n * 16777619 + D (o + n) = pa_cs D' o n * 16777619 + D' (o + n) := e
    by_cases z : p = n
    · subst z
      rw [pa_csc p (fun i hh => hi i (by omega) (by omega))] at e'
      exact hp ((Int32.add_right_inj _).mp e')
    · exact pa_csn hp n (by omega) (fun i hh hn => hi i (by omega) hn) (pa_odd e' (hi n (by omega) (by omega)))
theorem pa_ckn {D D' : Nat → Int32} {b p : Nat} (hp : p < 8) (h : D (b * 8 + p) ≠ D' (b * 8 + p)) (hi : ∀ i, i < 8 → i ≠ p → D (b * 8 + i) = D' (b * 8 + i)) : pa_ck D b ≠ pa_ck D' b := pa_csn h 8 hp hi
theorem pa_xck {post : Int32 → Prop} {b : Nat} (hb : b < 6) (h : post (pa_ck D b)) : wpX_checkOf post (fr, fm, P, E, D, T, C, R, RT, MB, UR, Q) (nI b) := by
  refine loop_0 (σ := Int32) (fun n i s => wX_checkOf_5 post (nI b) fr fm P E D T C R RT MB UR Q n s (nI i)) (fun i s => s = pa_cs D (b * 8) i) 8 17 rfl ?_ ?_
  · intro n s hs
    subst hs
    exact br_t (nI_le (a := 8) (b := 8) (by decide) (by decide)) h
  · intro n i s hi hs K
    subst hs
    exact br_f (nI_ge (b := 8) hi (by decide)) ⟨pa_n8 (by omega) (by decide), nm_r (congrArg (fun z => pa_cs D (b * 8) i * 16777619 + D z) (pa_c8 (by omega) (by omega))) (nm_r (nI_1 i) (K _ rfl))⟩
def pa_so (T C D : Nat → Int32) (b : Nat) : Int32 := if T b = 0 then 1 else if pa_ck D b = C b then 0 else 2
theorem pa_xso {post : Int32 → Prop} {b : Nat} (hb : b < 6) (h : post (pa_so T C D b)) : wpX_stateOf post (fr, fm, P, E, D, T, C, R, RT, MB, UR, Q) (nI b) := by
  have ec : (nI b).toNatClampNeg = b := nI_clamp (by omega)
  have hi : vp_in (nI b) 6 := vp_in_nI hb (by decide)
  unfold pa_so at h
  refine And.intro hi ?_
  by_cases z : T b = 0
  · rw [if_pos z] at h
    exact br_t ((congrArg T ec).trans z) h
  · rw [if_neg z] at h
    refine br_f (fun y => z ((congrArg T ec).symm.trans y)) (pa_xck hb (And.intro hi ?_))
    by_cases y : pa_ck D b = C b
    · rw [if_pos y] at h
      exact br_t (y.trans (congrArg C ec).symm) h
    · rw [if_neg y] at h
      exact br_f (fun q => y (q.trans (congrArg C ec))) h
theorem pa_so0 {b : Nat} (h : pa_so T C D b = 0) : ¬ T b = 0 ∧ C b = pa_ck D b := by
  unfold pa_so at h
  by_cases z : T b = 0
  · rw [if_pos z] at h; exact absurd h (by decide)
  · rw [if_neg z] at h
    by_cases y : pa_ck D b = C b
    · exact ⟨z, y.symm⟩
    · rw [if_neg y] at h; exact absurd h (by decide)
theorem pa_so0' {b : Nat} (h : ¬ T b = 0) (hc : C b = pa_ck D b) : pa_so T C D b = 0 := by
  unfold pa_so
  rw [if_neg h, if_pos hc.symm]
theorem pa_sol {b : Nat} (h : T b = 0) : pa_so T C D b = 1 := if_pos h
theorem pa_so2 {b : Nat} (h : ¬ T b = 0) (hc : ¬ pa_ck D b = C b) : pa_so T C D b = 2 := by
  unfold pa_so
  rw [if_neg h, if_neg hc]
theorem pa_soc {T' C' D' : Nat → Int32} {b : Nat} (hT : T b = T' b) (hC : C b = C' b) (hD : ∀ i, i < 8 → D (b * 8 + i) = D' (b * 8 + i)) : pa_so T C D b = pa_so T' C' D' b := by
  unfold pa_so
  rw [hT, hC, pa_ckc hD]
/-! counts -/
theorem pa_xbad {post : Int32 → Prop} {S : Nat → Int32} (hS : ∀ b, b < 6 → pa_so T C D b = S b) (h : post (nI (pa_cn S 6))) : wpX_badBlocks post (fr, fm, P, E, D, T, C, R, RT, MB, UR, Q) := by
  refine loop_0 (σ := Int32) (fun n i s => wX_badBlocks_4 post fr fm P E D T C R RT MB UR Q n s (nI i)) (fun i s => s = nI (pa_cn S i)) 6 0 rfl ?_ ?_
  · intro n s hs
    subst hs
    exact br_t (nI_le (a := 6) (b := 6) (by decide) (by decide)) h
  · intro n i s hi hs K
    subst hs
    refine br_f (nI_ge (b := 6) hi (by decide)) (pa_xso hi ?_)
    rw [hS i hi]
    by_cases z : S i = 0
    · exact br_t z (nm_r (nI_1 i) (K _ (by rw [pa_cnz z])))
    · exact br_f z (nm_r (nI_1 _) (nm_r (nI_1 i) (K _ (by rw [pa_cns z]))))
theorem pa_xgood {post : Int32 → Prop} {rc : Nat} (hr : rc ≤ 4) (h : post (nI (pa_cn RT rc))) : wpX_goodRecoveries post (nI rc, fm, P, E, D, T, C, R, RT, MB, UR, Q) := by
  refine loop_0 (σ := Int32) (fun n i s => wX_goodRecoveries_4 post (nI rc) fm P E D T C R RT MB UR Q n s (nI i)) (fun i s => s = nI (pa_cn RT i)) rc 0 rfl ?_ ?_
  · intro n s hs
    subst hs
    exact br_t (nI_le (Nat.le_refl rc) (by omega)) h
  · intro n i s hi hs K
    subst hs
    have ec : (nI i).toNatClampNeg = i := nI_clamp (by omega)
    refine br_f (nI_ge hi (by omega)) (And.intro (vp_in_nI (by omega) (by decide)) ?_)
    by_cases z : RT i = 0
    · exact br_t ((congrArg RT ec).trans z) (nm_r (nI_1 i) (K _ (by rw [pa_cnz z])))
    · exact br_f (fun y => z ((congrArg RT ec).symm.trans y)) (nm_r (nI_1 _) (nm_r (nI_1 i) (K _ (by rw [pa_cns z]))))
end
section
variable {fy : Int32} {L S WL : Nat → Int32}
theorem pa_ybad {post : Int32 → Prop} (h : post (nI (pa_cn S 6))) : wpY_notGood post (fy, L, S, WL) := by
  refine loop_0 (σ := Int32) (fun n i s => wY_notGood_4 post fy L S WL n s (nI i)) (fun i s => s = nI (pa_cn S i)) 6 0 rfl ?_ ?_
  · intro n s hs
    subst hs
    exact br_t (nI_le (a := 6) (b := 6) (by decide) (by decide)) h
  · intro n i s hi hs K
    subst hs
    have ec : (nI i).toNatClampNeg = i := nI_clamp (by omega)
    refine br_f (nI_ge (b := 6) hi (by decide)) (And.intro (vp_in_nI hi (by decide)) ?_)
    by_cases z : S i = 0
    · exact br_t ((congrArg S ec).trans z) (nm_r (nI_1 i) (K _ (by rw [pa_cnz z])))
    · exact br_f (fun y => z ((congrArg S ec).symm.trans y)) (nm_r (nI_1 _) (nm_r (nI_1 i) (K _ (by rw [pa_cns z]))))
theorem pa_yspare {post : Int32 → Prop} {rc : Nat} {RT : Nat → Int32} (hr : rc ≤ 4) (hw : ∀ r, r < rc → (RT r = 0 ↔ ¬ WL r = 0)) (h : post (nI (pa_cn RT rc))) : wpY_spare post (nI rc, L, S, WL) := by
  refine loop_0 (σ := Int32) (fun n i s => wY_spare_4 post (nI rc) L S WL n s (nI i)) (fun i s => s = nI (pa_cn RT i)) rc 0 rfl ?_ ?_
  · intro n s hs
    subst hs
    exact br_t (nI_le (Nat.le_refl rc) (by omega)) h
  · intro n i s hi hs K
    subst hs
    have ec : (nI i).toNatClampNeg = i := nI_clamp (by omega)
    refine br_f (nI_ge hi (by omega)) (And.intro (vp_in_nI (by omega) (by decide)) ?_)
    by_cases z : RT i = 0
    · exact br_f (fun y => (hw i hi).mp z ((congrArg WL ec).symm.trans y)) (nm_r (nI_1 i) (K _ (by rw [pa_cnz z])))
    · have w : WL i = 0 := Classical.byContradiction (fun q => z ((hw i hi).mpr q))
      exact br_t ((congrArg WL ec).trans w) (nm_r (nI_1 _) (nm_r (nI_1 i) (K _ (by rw [pa_cns z]))))
end
end
section
section
variable {fr fm : Int32} {P E D T C R RT MB UR Q : Nat → Int32}
/-- block b's bytes at place i are the true ones -/
def pa_Dr (D : Nat → Int32) (rl : Nat → Nat) (b : Nat) : Prop := ∀ i, i < 8 → D (b * 8 + i) = nI (rl (b * 8 + i)) ∧ rl (b * 8 + i) < 256
theorem pa_xmr20 {post : SX → Prop} {J : Int32 → (Nat → Int32) → (Nat → Int32) → (Nat → Int32) → (Nat → Int32) → (Nat → Int32) → (Nat → Int32) → (Nat → Int32) → (Nat → Int32) → (Nat → Int32) → (Nat → Int32) → Prop} {rl : Nat → Nat} {r i : Nat} (hT : pa_Tab P E) (hr : r < 4) (hi : i < 8) (hD : ∀ b, b < 6 → pa_Dr D rl b)
    (K : J (nI (i + 1)) P E D T C (upd R (r * 8 + i) (nI (pa_rs rl r i))) RT MB UR Q) : ∃ n, wX_makeRecovery_20 post J (nI r) (nI i) fr fm P E D T C R RT MB UR Q n 0 0 := by
  refine loop_0 (σ := Int32) (fun n b s => wX_makeRecovery_20 post J (nI r) (nI i) fr fm P E D T C R RT MB UR Q n s (nI b)) (fun b s => s = nI (pa_sum (fun b => pa_mul (pa_fac r b) (rl (b * 8 + i))) b)) 6 0 rfl ?_ ?_
  · intro n s hs
    subst hs
    exact br_t (nI_le (a := 6) (b := 6) (by decide) (by decide)) ⟨pa_n8 (by omega) (by decide), nm_r (congrArg (fun z => upd R z (nI (pa_rs rl r i))) (pa_c8 (by omega) (by omega))) (nm_r (nI_1 i) K)⟩
  · intro n b s hb hs K'
    subst hs
    exact br_f (nI_ge (b := 6) hb (by decide)) (pa_xfac hT hr hb rfl rfl ⟨pa_n8 (by omega) (by decide), pa_xtimes hT (pa_faclt r b) (hD b hb i hi).2 rfl ((congrArg D (pa_c8 (by omega) (by omega))).trans (hD b hb i hi).1) (nm_r (nx_xor _ _) (nm_r (nI_1 b) (K' _ rfl)))⟩)
theorem pa_xmr {post : SX → Prop} {rl : Nat → Nat} {r : Nat} (hT : pa_Tab P E) (hr : r < 4) (hD : ∀ b, b < 6 → pa_Dr D rl b)
    (K : ∀ R' : Nat → Int32, (∀ i, i < 8 → R' (r * 8 + i) = nI (pa_rs rl r i)) → (∀ j, j < r * 8 → R' j = R j) → post (fr, fm, P, E, D, T, C, R', upd RT r 1, MB, UR, Q)) : wpX_makeRecovery post (fr, fm, P, E, D, T, C, R, RT, MB, UR, Q) (nI r) := by
  refine And.intro (vp_in_nI hr (by decide)) (nm_r (e' := upd RT r 1) (congrArg (fun z => upd RT z 1) (nI_clamp (by omega))) ?_)
  refine loop_0 (σ := Nat → Int32) (fun n i s => wX_makeRecovery_9 post (nI r) fr fm n (nI i) P E D T C s (upd RT r 1) MB UR Q) (fun i s => (∀ i', i' < i → s (r * 8 + i') = nI (pa_rs rl r i')) ∧ ∀ j, j < r * 8 → s j = R j) 8 R ⟨fun i' h => absurd h (Nat.not_lt_zero i'), fun _ _ => rfl⟩ ?_ ?_
  · intro n s hs
    exact br_t (nI_le (a := 8) (b := 8) (by decide) (by decide)) (K s hs.1 hs.2)
  · intro n i s hi hs K'
    refine br_f (nI_ge (b := 8) hi (by decide)) (pa_xmr20 hT hr hi hD (K' _ ⟨fun i' h => ?_, fun j hj => ?_⟩))
    · by_cases e : i' = i
      · rw [e]; exact pk_us
      · rw [pk_un (by omega)]; exact hs.1 i' (by omega)
    · rw [pk_un (by omega)]; exact hs.2 j hj
/-! the list of missing blocks -/
def pa_Ml (S MB : Nat → Int32) (n : Nat) : Prop := ∀ j, j < pa_cn S n → MB j = nI (pa_en S n j)
theorem pa_Ml0 (S MB : Nat → Int32) : pa_Ml S MB 0 := fun j h => absurd h (Nat.not_lt_zero j)
theorem pa_Mlz {S MB : Nat → Int32} {n : Nat} (h : pa_Ml S MB n) (z : S n = 0) : pa_Ml S MB (n + 1) := by
  intro j hj
  rw [pa_cnz z] at hj
  rw [pa_enz z]
  exact h j hj
theorem pa_Mls {S MB : Nat → Int32} {n : Nat} (h : pa_Ml S MB n) (z : ¬ S n = 0) : pa_Ml S (upd MB (pa_cn S n) (nI n)) (n + 1) := by
  intro j hj
  rw [pa_cns z] at hj
  by_cases e : j = pa_cn S n
  · rw [e, pa_ens z]; exact pk_us
  · rw [pk_un e, pa_enn (by omega)]; exact h j (by omega)
theorem pa_xlist {post : SX → Prop} {S : Nat → Int32} (hS : ∀ b, b < 6 → pa_so T C D b = S b)
    (K : ∀ MB' : Nat → Int32, pa_Ml S MB' 6 → post (fr, nI (pa_cn S 6), P, E, D, T, C, R, RT, MB', UR, Q)) : wpX_listMissing post (fr, fm, P, E, D, T, C, R, RT, MB, UR, Q) := by
  refine loop_0 (σ := Int32 × (Nat → Int32)) (fun n b s => wX_listMissing_7 post fr n (nI b) s.1 P E D T C R RT s.2 UR Q) (fun b s => s.1 = nI (pa_cn S b) ∧ pa_Ml S s.2 b) 6 (0, MB) ⟨rfl, pa_Ml0 S MB⟩ ?_ ?_
  · intro n s hs
    obtain ⟨f, M⟩ := s
    obtain ⟨h1, h2⟩ := hs
    dsimp only at h1 h2
    subst h1
    exact br_t (nI_le (a := 6) (b := 6) (by decide) (by decide)) (K M h2)
  · intro n b s hb hs K'
    obtain ⟨f, M⟩ := s
    obtain ⟨h1, h2⟩ := hs
    dsimp only at h1 h2
    subst h1
    have hc := pa_cnle S b
    refine br_f (nI_ge (b := 6) hb (by decide)) (pa_xso hb ?_)
    rw [hS b hb]
    by_cases z : S b = 0
    · exact br_t z (nm_r (nI_1 b) (K' (nI (pa_cn S b), M) ⟨congrArg nI (pa_cnz z).symm, pa_Mlz h2 z⟩))
    · exact br_f z (And.intro (vp_in_nI (by omega) (by decide)) (nm_r (e' := upd M (pa_cn S b) (nI b)) (congrArg (fun q => upd M q (nI b)) (nI_clamp (by omega))) (nm_r (nI_1 _) (nm_r (nI_1 b) (K' (nI (pa_cn S b + 1), upd M (pa_cn S b) (nI b)) ⟨congrArg nI (pa_cns z).symm, pa_Mls h2 z⟩)))))
theorem pa_xismis {post : Int32 → Prop} {S : Nat → Int32} {b : Nat} (hb : b < 6) (hM : pa_Ml S MB 6) (h0 : S b = 0 → post 0) (h1 : ¬ S b = 0 → post 1) : wpX_isMissing post (fr, nI (pa_cn S 6), P, E, D, T, C, R, RT, MB, UR, Q) (nI b) := by
  have hc := pa_cnle S 6
  refine loop_0 (σ := Unit) (fun n j _ => wX_isMissing_2 post (nI b) fr (nI (pa_cn S 6)) P E D T C R RT MB UR Q n (nI j)) (fun j _ => ∀ j', j' < j → ¬ pa_en S 6 j' = b) (pa_cn S 6) () (fun j' h => absurd h (Nat.not_lt_zero j')) ?_ ?_
  · intro n s hs
    refine br_t (nI_le (Nat.le_refl _) (by omega)) (h0 ?_)
    refine Classical.byContradiction (fun z => ?_)
    exact hs (pa_cn S b) (pa_cnp hb z) (pa_ene z 6 hb)
  · intro n j s hj hs K'
    have ep := pa_enp 6 j hj
    have em : MB (nI j).toNatClampNeg = nI (pa_en S 6 j) := by
      rw [nI_clamp (by omega)]; exact hM j hj
    refine br_f (nI_ge hj (by omega)) (And.intro (vp_in_nI (by omega) (by decide)) ?_)
    by_cases e : pa_en S 6 j = b
    · refine br_t (by rw [em, e]) (h1 ?_)
      rw [← e]; exact ep.2.1
    · refine br_f (fun q => e ((nI_eq (by omega) (by omega)).mp (em.symm.trans q))) (nm_r (nI_1 j) (K' () (fun j' h => ?_)))
      by_cases f : j' = j
      · rw [f]; exact e
      · exact hs j' (by omega)
/-- what the missing blocks give to recovery byte r, i -/
def pa_rm (S : Nat → Int32) (rl : Nat → Nat) (r i : Nat) : Nat := pa_sum (fun j => pa_mul (pa_fac r (pa_en S 6 j)) (rl (pa_en S 6 j * 8 + i))) (pa_cn S 6)
theorem pa_xrest {post : Int32 → Prop} {S : Nat → Int32} {rl : Nat → Nat} {r i : Nat} {a : Int32} (hT : pa_Tab P E) (hr : r < 4) (hi : i < 8) (ea : a = nI r) (hM : pa_Ml S MB 6) (hD : ∀ b, b < 6 → S b = 0 → pa_Dr D rl b) (hR : R (r * 8 + i) = nI (pa_rs rl r i))
    (h : post (nI (pa_rm S rl r i))) : wpX_restOf post (fr, nI (pa_cn S 6), P, E, D, T, C, R, RT, MB, UR, Q) a (nI i) := by
  subst ea
  refine And.intro (pa_n8 (by omega) (by decide)) (nm_r (e' := nI (pa_rs rl r i)) ((congrArg R (pa_c8 (by omega) (by omega))).trans hR) ?_)
  refine loop_0 (σ := Int32) (fun n b s => wX_restOf_15 post (nI r) (nI i) fr (nI (pa_cn S 6)) P E D T C R RT MB UR Q n s (nI b)) (fun b s => s = nI (pa_rs rl r i ^^^ pa_sum (fun b => if S b = 0 then pa_mul (pa_fac r b) (rl (b * 8 + i)) else 0) b)) 6 (nI (pa_rs rl r i)) (by
    show nI (pa_rs rl r i) = nI (pa_rs rl r i ^^^ 0)
    rw [Nat.xor_zero]) ?_ ?_
  · intro n s hs
    subst hs
    refine br_t (nI_le (a := 6) (b := 6) (by decide) (by decide)) ?_
    rw [pa_rest]
    exact h
  · intro n b s hb hs K'
    subst hs
    refine br_f (nI_ge (b := 6) hb (by decide)) (pa_xismis hb hM (fun z => ?_) (fun z => ?_))
    · refine br_t rfl (pa_xfac hT hr hb rfl rfl ⟨pa_n8 (by omega) (by decide), pa_xtimes hT (pa_faclt r b) (hD b hb z i hi).2 rfl ((congrArg D (pa_c8 (by omega) (by omega))).trans (hD b hb z i hi).1) (nm_r (nx_xor _ _) (nm_r (nI_1 b) (K' _ ?_)))⟩)
      show nI _ = nI (pa_rs rl r i ^^^ (pa_sum (fun b => if S b = 0 then pa_mul (pa_fac r b) (rl (b * 8 + i)) else 0) b ^^^ (if S b = 0 then pa_mul (pa_fac r b) (rl (b * 8 + i)) else 0)))
      rw [if_pos z, Nat.xor_assoc]
    · refine br_f (by decide) (nm_r (nI_1 b) (K' _ ?_))
      show nI _ = nI (pa_rs rl r i ^^^ (pa_sum (fun b => if S b = 0 then pa_mul (pa_fac r b) (rl (b * 8 + i)) else 0) b ^^^ (if S b = 0 then pa_mul (pa_fac r b) (rl (b * 8 + i)) else 0)))
      rw [if_neg z, Nat.xor_zero]
end
end
section
/-! the equations in their array -/
def pa_Cs (e c0 w : Nat) (F : Nat → Nat → Nat) (Q : Nat → Int32) : Prop := ∀ g c, c < w → (g < e ∨ (g = e ∧ c < c0)) → F g c < 256 ∧ Q (g * 12 + c) = nI (F g c)
theorem pa_Cs0 (w : Nat) (F : Nat → Nat → Nat) (Q : Nat → Int32) : pa_Cs 0 0 w F Q := by
  intro g c _ h
  omega
theorem pa_Csn {e w : Nat} {F : Nat → Nat → Nat} {Q : Nat → Int32} (h : pa_Cs e w w F Q) : pa_Cs (e + 1) 0 w F Q := by
  intro g c hc hg
  exact h g c hc (by omega)
theorem pa_Csu {e c0 w v : Nat} {F : Nat → Nat → Nat} {Q : Nat → Int32} (h : pa_Cs e c0 w F Q) (hw : w ≤ 12) (hc0 : c0 < w) (hv : F e c0 = v) (hl : v < 256) : pa_Cs e (c0 + 1) w F (upd Q (e * 12 + c0) (nI v)) := by
  intro g c hc hg
  by_cases z : g = e ∧ c = c0
  · rw [z.1, z.2, hv]
    exact ⟨hl, pk_us⟩
  · have hn : g * 12 + c ≠ e * 12 + c0 := by omega
    rw [pk_un hn]
    exact h g c hc (by omega)
/-- m rows of w columns hold F -/
def pa_Cn (m w : Nat) (F : Nat → Nat → Nat) (Q : Nat → Int32) : Prop := ∀ g c, g < m → c < w → F g c < 256 ∧ Q (g * 12 + c) = nI (F g c)
theorem pa_Cnc {m w : Nat} {F G : Nat → Nat → Nat} {Q : Nat → Int32} (h : pa_Cn m w F Q) (e : ∀ g c, g < m → c < w → F g c = G g c) : pa_Cn m w G Q := by
  intro g c hg hc
  rw [← e g c hg hc]
  exact h g c hg hc
theorem pa_Cnu {m w g0 c0 v : Nat} {F G : Nat → Nat → Nat} {Q : Nat → Int32} (h : pa_Cn m w F Q) (hw : w ≤ 12) (hc0 : c0 < w) (hl : v < 256) (hv : G g0 c0 = v) (hG : ∀ g c, g < m → c < w → ¬ (g = g0 ∧ c = c0) → G g c = F g c) : pa_Cn m w G (upd Q (g0 * 12 + c0) (nI v)) := by
  intro g c hg hc
  by_cases z : g = g0 ∧ c = c0
  · rw [z.1, z.2, hv]
    exact ⟨hl, pk_us⟩
  · have hn : g * 12 + c ≠ g0 * 12 + c0 := by omega
    rw [pk_un hn, hG g c hg hc z]
    exact h g c hg hc
section
variable {fr fm : Int32} {P E D T C R RT MB UR Q : Nat → Int32}
/-- the equations at the start: row e by recovery block us e -/
def pa_F0 (S : Nat → Int32) (rl us : Nat → Nat) (g c : Nat) : Nat := if c < pa_cn S 6 then pa_fac (us g) (pa_en S 6 c) else pa_rm S rl (us g) (c - pa_cn S 6)
theorem pa_F0l {S : Nat → Int32} {rl us : Nat → Nat} {g c : Nat} (h : c < pa_cn S 6) : pa_F0 S rl us g c = pa_fac (us g) (pa_en S 6 c) := if_pos h
theorem pa_F0r {S : Nat → Int32} {rl us : Nat → Nat} {g i : Nat} : pa_F0 S rl us g (pa_cn S 6 + i) = pa_rm S rl (us g) i := by
  unfold pa_F0
  rw [if_neg (by omega), show pa_cn S 6 + i - pa_cn S 6 = i from by omega]
theorem pa_rmlt (S : Nat → Int32) (rl : Nat → Nat) (r i : Nat) : pa_rm S rl r i < 256 := pa_sumlt _ (fun _ _ => pa_mullt _ _)
theorem pa_xse100 {post : SX → Prop} {J : Int32 → (Nat → Int32) → (Nat → Int32) → (Nat → Int32) → (Nat → Int32) → (Nat → Int32) → (Nat → Int32) → (Nat → Int32) → (Nat → Int32) → (Nat → Int32) → (Nat → Int32) → Prop} {S : Nat → Int32} {rl us : Nat → Nat} {e rc : Nat} (hT : pa_Tab P E) (hm : pa_cn S 6 ≤ 4) (he : e < pa_cn S 6) (hrc : rc ≤ 4) (hM : pa_Ml S MB 6) (hU : ∀ j, j < pa_cn S 6 → UR j = nI (us j) ∧ us j < rc)
    (hD : ∀ b, b < 6 → S b = 0 → pa_Dr D rl b) (hR : ∀ r i, r < rc → i < 8 → R (r * 8 + i) = nI (pa_rs rl r i)) (hQ : pa_Cs e (pa_cn S 6) (pa_cn S 6 + 8) (pa_F0 S rl us) Q)
    (K : ∀ Q' : Nat → Int32, pa_Cs (e + 1) 0 (pa_cn S 6 + 8) (pa_F0 S rl us) Q' → J (nI (e + 1)) P E D T C R RT MB UR Q') : ∃ n, wX_setEquations_100 post J (nI e) fr (nI (pa_cn S 6)) n 0 P E D T C R RT MB UR Q := by
  refine loop_0 (σ := Nat → Int32) (fun n i s => wX_setEquations_100 post J (nI e) fr (nI (pa_cn S 6)) n (nI i) P E D T C R RT MB UR s) (fun i s => pa_Cs e (pa_cn S 6 + i) (pa_cn S 6 + 8) (pa_F0 S rl us) s) 8 Q hQ ?_ ?_
  · intro n s hs
    exact br_t (nI_le (a := 8) (b := 8) (by decide) (by decide)) (nm_r (nI_1 e) (K s (pa_Csn hs)))
  · intro n i s hi hs K'
    have eu : UR (nI e).toNatClampNeg = nI (us e) := by
      rw [nI_clamp (by omega)]; exact (hU e he).1
    have hu := (hU e he).2
    have ei : nI e * 12 + nI (pa_cn S 6) + nI i = nI (e * 12 + (pa_cn S 6 + i)) := by
      rw [pa_i12, nI_add, Nat.add_assoc]
    refine br_f (nI_ge (b := 8) hi (by decide)) (And.intro (vp_in_nI (by omega) (by decide)) (pa_xrest hT (by omega) hi eu hM hD (hR (us e) i hu hi) (And.intro ?_ (nm_r (e' := upd s (e * 12 + (pa_cn S 6 + i)) (nI (pa_rm S rl (us e) i))) ?_ (nm_r (nI_1 i) (K' _ (pa_Csu (c0 := pa_cn S 6 + i) hs (by omega) (by omega) pa_F0r (pa_rmlt _ _ _ _))))))))
    · rw [ei]; exact vp_in_nI (by omega) (by decide)
    · rw [ei, nI_clamp (by omega)]
theorem pa_xse57 {post : SX → Prop} {J : Int32 → (Nat → Int32) → (Nat → Int32) → (Nat → Int32) → (Nat → Int32) → (Nat → Int32) → (Nat → Int32) → (Nat → Int32) → (Nat → Int32) → (Nat → Int32) → (Nat → Int32) → Prop} {S : Nat → Int32} {rl us : Nat → Nat} {e rc : Nat} (hT : pa_Tab P E) (hm : pa_cn S 6 ≤ 4) (he : e < pa_cn S 6) (hrc : rc ≤ 4) (hM : pa_Ml S MB 6) (hU : ∀ j, j < pa_cn S 6 → UR j = nI (us j) ∧ us j < rc)
    (hD : ∀ b, b < 6 → S b = 0 → pa_Dr D rl b) (hR : ∀ r i, r < rc → i < 8 → R (r * 8 + i) = nI (pa_rs rl r i)) (hQ : pa_Cs e 0 (pa_cn S 6 + 8) (pa_F0 S rl us) Q)
    (K : ∀ Q' : Nat → Int32, pa_Cs (e + 1) 0 (pa_cn S 6 + 8) (pa_F0 S rl us) Q' → J (nI (e + 1)) P E D T C R RT MB UR Q') : ∃ n, wX_setEquations_57 post J (nI e) fr (nI (pa_cn S 6)) n 0 P E D T C R RT MB UR Q := by
  refine loop_0 (σ := Nat → Int32) (fun n j s => wX_setEquations_57 post J (nI e) fr (nI (pa_cn S 6)) n (nI j) P E D T C R RT MB UR s) (fun j s => pa_Cs e j (pa_cn S 6 + 8) (pa_F0 S rl us) s) (pa_cn S 6) Q hQ ?_ ?_
  · intro n s hs
    exact br_t (nI_le (Nat.le_refl _) (by omega)) (pa_xse100 hT hm he hrc hM hU hD hR hs K)
  · intro n j s hj hs K'
    have eu : UR (nI e).toNatClampNeg = nI (us e) := by
      rw [nI_clamp (by omega)]; exact (hU e he).1
    have hu := (hU e he).2
    have ep := pa_enp 6 j hj
    have em : MB (nI j).toNatClampNeg = nI (pa_en S 6 j) := by
      rw [nI_clamp (by omega)]; exact hM j hj
    exact br_f (nI_ge hj (by omega)) (And.intro (vp_in_nI (by omega) (by decide)) (And.intro (vp_in_nI (by omega) (by decide)) (pa_xfac hT (by omega) ep.1 eu em (And.intro (pa_n12 (by omega) (by decide)) (nm_r (congrArg (fun z => upd s z (nI (pa_fac (us e) (pa_en S 6 j)))) (pa_c12 (by omega) (by omega))) (nm_r (nI_1 j) (K' _ (pa_Csu hs (by omega) (by omega) (pa_F0l hj) (pa_faclt _ _)))))))))
theorem pa_xse47 {post : SX → Prop} {S : Nat → Int32} {rl us : Nat → Nat} {rc : Nat} (hT : pa_Tab P E) (hm : pa_cn S 6 ≤ 4) (hrc : rc ≤ 4) (hM : pa_Ml S MB 6) (hU : ∀ j, j < pa_cn S 6 → UR j = nI (us j) ∧ us j < rc)
    (hD : ∀ b, b < 6 → S b = 0 → pa_Dr D rl b) (hR : ∀ r i, r < rc → i < 8 → R (r * 8 + i) = nI (pa_rs rl r i))
    (K : ∀ Q' : Nat → Int32, pa_Cs (pa_cn S 6) 0 (pa_cn S 6 + 8) (pa_F0 S rl us) Q' → post (fr, nI (pa_cn S 6), P, E, D, T, C, R, RT, MB, UR, Q')) : ∃ n, wX_setEquations_47 post fr (nI (pa_cn S 6)) n 0 P E D T C R RT MB UR Q := by
  refine loop_0 (σ := Nat → Int32) (fun n e s => wX_setEquations_47 post fr (nI (pa_cn S 6)) n (nI e) P E D T C R RT MB UR s) (fun e s => pa_Cs e 0 (pa_cn S 6 + 8) (pa_F0 S rl us) s) (pa_cn S 6) Q (pa_Cs0 _ _ _) ?_ ?_
  · intro n s hs
    exact br_t (nI_le (Nat.le_refl _) (by omega)) (K s hs)
  · intro n e s he hs K'
    exact br_f (nI_ge he (by omega)) (pa_xse57 hT hm he hrc hM hU hD hR hs (fun Q' h => K' Q' h))
theorem pa_xse {post : SX → Prop} {S : Nat → Int32} {rl : Nat → Nat} {rc : Nat} (hT : pa_Tab P E) (hrc : rc ≤ 4) (hm : pa_cn S 6 ≤ pa_cn RT rc) (hM : pa_Ml S MB 6)
    (hD : ∀ b, b < 6 → S b = 0 → pa_Dr D rl b) (hR : ∀ r i, r < rc → i < 8 → R (r * 8 + i) = nI (pa_rs rl r i))
    (K : ∀ UR' Q' : Nat → Int32, pa_Cs (pa_cn S 6) 0 (pa_cn S 6 + 8) (pa_F0 S rl (pa_en RT rc)) Q' → post (nI rc, nI (pa_cn S 6), P, E, D, T, C, R, RT, MB, UR', Q')) : wpX_setEquations post (nI rc, nI (pa_cn S 6), P, E, D, T, C, R, RT, MB, UR, Q) := by
  have hle := pa_cnle RT rc
  refine loop_0 (σ := Int32 × (Nat → Int32)) (fun n r s => wX_setEquations_4 post (nI rc) (nI (pa_cn S 6)) n s.1 (nI r) P E D T C R RT MB s.2 Q) (fun r s => s.1 = nI (pa_cn RT r) ∧ pa_cn RT r ≤ pa_cn S 6 ∧ pa_Ml RT s.2 r) rc (0, UR) ⟨rfl, Nat.zero_le _, pa_Ml0 RT UR⟩ ?_ ?_
  · intro n s hs
    obtain ⟨k, U⟩ := s
    obtain ⟨h1, h2, h3⟩ := hs
    dsimp only at h1 h2 h3
    subst h1
    exact br_t (nI_le (Nat.le_refl _) (by omega)) (pa_xse47 (us := pa_en RT rc) hT (by omega) hrc hM (fun j hj => ⟨h3 j (by omega), (pa_enp (S := RT) rc j (by omega)).1⟩) hD hR (fun Q' h => K U Q' h))
  · intro n r s hr hs K'
    obtain ⟨k, U⟩ := s
    obtain ⟨h1, h2, h3⟩ := hs
    dsimp only at h1 h2 h3
    subst h1
    refine br_f (nI_ge hr (by omega)) ?_
    by_cases q : pa_cn S 6 ≤ pa_cn RT r
    · refine br_t (nI_le q (by omega)) (pa_xse47 (us := pa_en RT rc) hT (by omega) hrc hM (fun j hj => ⟨?_, (pa_enp (S := RT) rc j (by omega)).1⟩) hD hR (fun Q' h => K U Q' h))
      have a := pa_enm (S := RT) (n := r) (j := j) (by omega) (rc - r)
      rw [show r + (rc - r) = rc from by omega] at a
      rw [a]
      exact h3 j (by omega)
    · have ec : (nI r).toNatClampNeg = r := nI_clamp (by omega)
      refine br_f (nI_ge (by omega) (by omega)) (And.intro (vp_in_nI (by omega) (by decide)) ?_)
      by_cases z : RT r = 0
      · exact br_t ((congrArg RT ec).trans z) (nm_r (nI_1 r) (K' (nI (pa_cn RT r), U) ⟨congrArg nI (pa_cnz z).symm, by rw [pa_cnz z]; exact h2, pa_Mlz h3 z⟩))
      · exact br_f (fun y => z ((congrArg RT ec).symm.trans y)) (And.intro (vp_in_nI (by omega) (by decide)) (nm_r (e' := upd U (pa_cn RT r) (nI r)) (congrArg (fun y => upd U y (nI r)) (nI_clamp (by omega))) (nm_r (nI_1 _) (nm_r (nI_1 r) (K' (nI (pa_cn RT r + 1), upd U (pa_cn RT r) (nI r)) ⟨congrArg nI (pa_cns z).symm, by rw [pa_cns z]; omega, pa_Mls h3 z⟩)))))
end
end
section
section
variable {fr fm : Int32} {P E D T C R RT MB UR Q : Nat → Int32}
theorem pa_xel138 {post : SX → Prop} {J : Int32 → (Nat → Int32) → (Nat → Int32) → (Nat → Int32) → (Nat → Int32) → (Nat → Int32) → (Nat → Int32) → (Nat → Int32) → (Nat → Int32) → (Nat → Int32) → (Nat → Int32) → Prop} {m k g f : Nat} {F : Nat → Nat → Nat} (hT : pa_Tab P E) (hm : m ≤ 4) (hk : k < m) (hg : g < m) (hgk : g ≠ k) (hf : f < 256) (hQ : pa_Cn m (m + 8) F Q)
    (K : ∀ Q' : Nat → Int32, pa_Cn m (m + 8) (fun g' c => if g' = g then F g c ^^^ pa_mul f (F k c) else F g' c) Q' → J (nI (g + 1)) P E D T C R RT MB UR Q') : ∃ n, wX_eliminate_138 post J (nI k) (nI g) (nI f) fr (nI m) n 0 P E D T C R RT MB UR Q := by
  have e8 : nI m + 8 = nI (m + 8) := nI_add m 8
  refine loop_0 (σ := Nat → Int32) (fun n j s => wX_eliminate_138 post J (nI k) (nI g) (nI f) fr (nI m) n (nI j) P E D T C R RT MB UR s) (fun j s => pa_Cn m (m + 8) (fun g' c => if g' = g ∧ c < j then F g c ^^^ pa_mul f (F k c) else F g' c) s) (m + 8) Q (pa_Cnc hQ (fun g' c _ _ => (if_neg (by omega)).symm)) ?_ ?_
  · intro n s hs
    refine br_t (by rw [e8]; exact nI_le (Nat.le_refl _) (by omega)) (nm_r (nI_1 g) (K s (pa_Cnc hs (fun g' c hg' hc => ?_))))
    by_cases z : g' = g
    · rw [if_pos ⟨z, hc⟩, if_pos z]
    · rw [if_neg (fun h => z h.1), if_neg z]
  · intro n j s hj hs K'
    have h1 := hs g j hg hj
    have h2 := hs k j hk hj
    dsimp only at h1 h2
    rw [if_neg (by omega)] at h1 h2
    refine br_f (by rw [e8]; exact nI_ge hj (by omega)) (br_f (fun q => hgk ((nI_eq (by omega) (by omega)).mp q)) (And.intro (pa_n12 (by omega) (by decide)) (And.intro (pa_n12 (by omega) (by decide)) (pa_xtimes hT hf h2.1 rfl ((congrArg s (pa_c12 (by omega) (by omega))).trans h2.2) (And.intro (pa_n12 (by omega) (by decide)) (nm_r (e' := upd s (g * 12 + j) (nI (F g j ^^^ pa_mul f (F k j)))) ?_ (nm_r (nI_1 j) (K' _ (pa_Cnu hs (by omega) hj (pa_xlt h1.1 (pa_mullt f (F k j))) ?_ ?_)))))))))
    · rw [pa_c12 (by omega) (by omega), h1.2, nx_xor]
    · exact if_pos ⟨rfl, by omega⟩
    · intro g' c _ _ z
      by_cases y : g' = g ∧ c < j
      · rw [if_pos y, if_pos ⟨y.1, by omega⟩]
      · rw [if_neg y, if_neg (by omega)]
theorem pa_xel112 {post : SX → Prop} {m k : Nat} {F : Nat → Nat → Nat} (hT : pa_Tab P E) (hm : m ≤ 4) (hk : k < m) (hQ : pa_Cn m (m + 8) F Q)
    (K : ∀ Q' : Nat → Int32, pa_Cn m (m + 8) (fun g c => if g = k then F g c else F g c ^^^ pa_mul (F g k) (F k c)) Q' → post (fr, nI m, P, E, D, T, C, R, RT, MB, UR, Q')) : ∃ n, wX_eliminate_112 post (nI k) fr (nI m) n 0 P E D T C R RT MB UR Q := by
  refine loop_0 (σ := Nat → Int32) (fun n g s => wX_eliminate_112 post (nI k) fr (nI m) n (nI g) P E D T C R RT MB UR s) (fun g s => pa_Cn m (m + 8) (fun g' c => if g' < g ∧ g' ≠ k then F g' c ^^^ pa_mul (F g' k) (F k c) else F g' c) s) m Q (pa_Cnc hQ (fun g' c _ _ => (if_neg (by omega)).symm)) ?_ ?_
  · intro n s hs
    refine br_t (nI_le (Nat.le_refl _) (by omega)) (K s (pa_Cnc hs (fun g' c hg' hc => ?_)))
    by_cases z : g' = k
    · rw [if_neg (fun h => h.2 z), if_pos z]
    · rw [if_pos ⟨hg', z⟩, if_neg z]
  · intro n g s hg hs K'
    have h1 := hs g k hg (by omega)
    dsimp only at h1
    rw [if_neg (by omega)] at h1
    refine br_f (nI_ge hg (by omega)) (And.intro (pa_n12 (by omega) (by decide)) (nm_r (e' := nI (F g k)) ((congrArg s (pa_c12 (by omega) (by omega))).trans h1.2) ?_))
    by_cases e : g = k
    · subst e
      refine ⟨1, br_f (by rw [show nI m + 8 = nI (m + 8) from nI_add m 8]; exact nI_ge (a := 0) (by omega) (by omega)) (br_t rfl (nm_r (nI_1 g) (K' s (pa_Cnc hs (fun g' c _ _ => ?_)))))⟩
      by_cases z : g' < g ∧ g' ≠ g
      · rw [if_pos z, if_pos ⟨by omega, z.2⟩]
      · rw [if_neg z, if_neg (by omega)]
    · refine pa_xel138 hT hm hk hg e h1.1 hs (fun Q' h => K' Q' (pa_Cnc h (fun g' c _ _ => ?_)))
      by_cases z : g' = g
      · subst z
        rw [if_pos rfl, if_neg (by omega), if_neg (by omega), if_pos ⟨by omega, e⟩]
      · rw [if_neg z]
        by_cases y : g' < g ∧ g' ≠ k
        · rw [if_pos y, if_pos ⟨by omega, y.2⟩]
        · rw [if_neg y, if_neg (by omega)]
theorem pa_xel62 {post : SX → Prop} {m k p : Nat} {F : Nat → Nat → Nat} (hT : pa_Tab P E) (hm : m ≤ 4) (hk : k < m) (hp : p < 256) (hQ : pa_Cn m (m + 8) F Q)
    (K : ∀ Q' : Nat → Int32, pa_Cn m (m + 8) (fun g c => if g = k then pa_mul p (F k c) else F g c) Q' → ∃ n, wX_eliminate_112 post (nI k) fr (nI m) n 0 P E D T C R RT MB UR Q') : ∃ n, wX_eliminate_62 post (nI k) (nI p) fr (nI m) n 0 P E D T C R RT MB UR Q := by
  have e8 : nI m + 8 = nI (m + 8) := nI_add m 8
  refine loop_0 (σ := Nat → Int32) (fun n j s => wX_eliminate_62 post (nI k) (nI p) fr (nI m) n (nI j) P E D T C R RT MB UR s) (fun j s => pa_Cn m (m + 8) (fun g c => if g = k ∧ c < j then pa_mul p (F k c) else F g c) s) (m + 8) Q (pa_Cnc hQ (fun g c _ _ => (if_neg (by omega)).symm)) ?_ ?_
  · intro n s hs
    refine br_t (by rw [e8]; exact nI_le (Nat.le_refl _) (by omega)) (K s (pa_Cnc hs (fun g c hg hc => ?_)))
    by_cases z : g = k
    · rw [if_pos ⟨z, hc⟩, if_pos z]
    · rw [if_neg (fun h => z h.1), if_neg z]
  · intro n j s hj hs K'
    have h1 := hs k j hk hj
    dsimp only at h1
    rw [if_neg (by omega)] at h1
    refine br_f (by rw [e8]; exact nI_ge hj (by omega)) (And.intro (pa_n12 (by omega) (by decide)) (pa_xtimes hT hp h1.1 rfl ((congrArg s (pa_c12 (by omega) (by omega))).trans h1.2) (And.intro (pa_n12 (by omega) (by decide)) (nm_r (congrArg (fun z => upd s z (nI (pa_mul p (F k j)))) (pa_c12 (by omega) (by omega))) (nm_r (nI_1 j) (K' _ (pa_Cnu hs (by omega) hj (pa_mullt p (F k j)) ?_ ?_)))))))
    · exact if_pos ⟨rfl, by omega⟩
    · intro g c _ _ z
      by_cases y : g = k ∧ c < j
      · rw [if_pos y, if_pos ⟨y.1, by omega⟩]
      · rw [if_neg y, if_neg (by omega)]
theorem pa_xelim {post : SX → Prop} {m k : Nat} {A v : Nat → Nat → Nat} (hT : pa_Tab P E) (hm : m ≤ 4) (hk : k < m) (hA : ∀ g j, g < m → j < m → A g j < 256) (hp : pa_M A k k k ≠ 0) (hQ : pa_Cn m (m + 8) (pa_CT m A v k) Q)
    (K : ∀ Q' : Nat → Int32, pa_Cn m (m + 8) (pa_CT m A v (k + 1)) Q' → post (fr, nI m, P, E, D, T, C, R, RT, MB, UR, Q')) : wpX_eliminate post (fr, nI m, P, E, D, T, C, R, RT, MB, UR, Q) (nI k) := by
  have hq := hQ k k hk (by omega)
  rw [pa_CTl hk] at hq
  have eq : Q (nI k * 12 + nI k).toNatClampNeg = nI (pa_M A k k k) := (congrArg Q (pa_c12 (by omega) (by omega))).trans hq.2
  have H43 : wX_eliminate_43 post (nI k) fr (nI m) P E D T C R RT MB UR Q := by
    refine And.intro (pa_n12 (by omega) (by decide)) (pa_xinv hT hq.1 hp eq ?_)
    refine pa_xel62 hT hm hk (pa_invlt _) hQ (fun Q1 h1 => pa_xel112 hT hm hk h1 (fun Q2 h2 => K Q2 (pa_Cnc h2 (fun g c hg hc => ?_))))
    by_cases z : g = k
    · rw [if_pos z, if_pos z, z, pa_CTk]
    · rw [if_neg z, if_neg z, if_neg z, if_pos rfl, pa_CTg hA c hg z, pa_CTl hk]
  have H32 : wX_eliminate_32 post (nI k) (nI k) fr (nI m) P E D T C R RT MB UR Q := br_t rfl H43
  exact ⟨1, br_c (fun _ => H32) (fun _ => And.intro (pa_n12 (by omega) (by decide)) (br_f (fun q => nI_ne0 (by omega) (by omega) (eq.symm.trans q)) H32))⟩
end
end
section
section
variable {fr fm : Int32} {P E D T C R RT MB UR Q : Nat → Int32}
/-- a block that is there, with its true bytes and its check value -/
def pa_G (rl : Nat → Nat) (D T C : Nat → Int32) (b : Nat) : Prop := pa_Dr D rl b ∧ ¬ T b = 0 ∧ C b = pa_ck D b
theorem pa_Gs {rl : Nat → Nat} {S D' : Nat → Int32} {j : Nat} (hj : j < pa_cn S 6) (h : ∀ b, b < 6 → (S b = 0 ∨ pa_cn S b < j) → pa_G rl D T C b) (h1 : pa_Dr D' rl (pa_en S 6 j)) (h2 : ∀ q, (q < pa_en S 6 j * 8 ∨ pa_en S 6 j * 8 + 8 ≤ q) → D' q = D q) :
    ∀ b, b < 6 → (S b = 0 ∨ pa_cn S b < j + 1) → pa_G rl D' (upd T (pa_en S 6 j) 1) (upd C (pa_en S 6 j) (pa_ck D' (pa_en S 6 j))) b := by
  intro b hb hc
  by_cases e : b = pa_en S 6 j
  · rw [e]
    exact ⟨h1, by rw [pk_us]; decide, pk_us⟩
  · have hc' : S b = 0 ∨ pa_cn S b < j := by
      by_cases z : S b = 0
      · exact Or.inl z
      · refine Or.inr ?_
        have a := pa_ene z 6 hb
        rcases hc with hc | hc
        · exact absurd hc z
        · by_cases y : pa_cn S b = j
          · rw [y] at a
            exact absurd a.symm e
          · omega
    have g := h b hb hc'
    have d : ∀ i, i < 8 → D' (b * 8 + i) = D (b * 8 + i) := fun i hi => h2 _ (by omega)
    refine ⟨fun i hi => ?_, ?_, ?_⟩
    · rw [d i hi]; exact g.1 i hi
    · rw [pk_un e]; exact g.2.1
    · rw [pk_un e, pa_ckc d]; exact g.2.2
theorem pa_xpb {post : SX → Prop} {rl : Nat → Nat} {m j b : Nat} (hm : m ≤ 4) (hj : j < m) (hb : b < 6) (hM : MB j = nI b) (hr : ∀ i, i < 8 → rl (b * 8 + i) < 256) (hQ : ∀ i, i < 8 → Q (j * 12 + (m + i)) = nI (rl (b * 8 + i)))
    (K : ∀ D' : Nat → Int32, pa_Dr D' rl b → (∀ q, (q < b * 8 ∨ b * 8 + 8 ≤ q) → D' q = D q) → post (fr, nI m, P, E, D', upd T b 1, upd C b (pa_ck D' b), R, RT, MB, UR, Q)) : wpX_putBack post (fr, nI m, P, E, D, T, C, R, RT, MB, UR, Q) (nI j) := by
  have ec : (nI b).toNatClampNeg = b := nI_clamp (by omega)
  have hi6 : vp_in (nI b) 6 := vp_in_nI hb (by decide)
  refine And.intro (vp_in_nI (by omega) (by decide)) (nm_r (e' := nI b) ((congrArg MB (nI_clamp (by omega))).trans hM) ?_)
  refine loop_0 (σ := Nat → Int32) (fun n i s => wX_putBack_9 post (nI j) (nI b) fr (nI m) n (nI i) P E s T C R RT MB UR Q) (fun i s => (∀ i', i' < i → s (b * 8 + i') = nI (rl (b * 8 + i'))) ∧ ∀ q, (q < b * 8 ∨ b * 8 + 8 ≤ q) → s q = D q) 8 D ⟨fun i' h => absurd h (Nat.not_lt_zero i'), fun _ _ => rfl⟩ ?_ ?_
  · intro n s hs
    exact br_t (nI_le (a := 8) (b := 8) (by decide) (by decide)) (And.intro hi6 (nm_r (e' := upd T b 1) (congrArg (fun z => upd T z 1) ec) (pa_xck hb (And.intro hi6 (nm_r (congrArg (fun z => upd C z (pa_ck s b)) ec) (K s (fun i hi => ⟨hs.1 i hi, hr i hi⟩) hs.2))))))
  · intro n i s hi hs K'
    have ei : nI j * 12 + nI m + nI i = nI (j * 12 + (m + i)) := by
      rw [pa_i12, nI_add, Nat.add_assoc]
    refine br_f (nI_ge (b := 8) hi (by decide)) (And.intro ?_ (And.intro (pa_n8 (by omega) (by decide)) (nm_r (e' := upd s (b * 8 + i) (nI (rl (b * 8 + i)))) ?_ (nm_r (nI_1 i) (K' _ ⟨fun i' h => ?_, fun q hq => ?_⟩)))))
    · rw [ei]; exact vp_in_nI (by omega) (by decide)
    · rw [ei, nI_clamp (by omega), hQ i hi, pa_c8 (by omega) (by omega)]
    · by_cases e : i' = i
      · rw [e]; exact pk_us
      · rw [pk_un (by omega)]; exact hs.1 i' (by omega)
    · rw [pk_un (by omega)]; exact hs.2 q hq
/-- the recovery blocks below n are there and right -/
def pa_Rg (rl : Nat → Nat) (R RT : Nat → Int32) (n : Nat) : Prop := ∀ r, r < n → ¬ RT r = 0 ∧ ∀ i, i < 8 → R (r * 8 + i) = nI (pa_rs rl r i)
theorem pa_Rg0 (rl : Nat → Nat) (R RT : Nat → Int32) : pa_Rg rl R RT 0 := fun r h => absurd h (Nat.not_lt_zero r)
theorem pa_Rgs {rl : Nat → Nat} {R' : Nat → Int32} {r : Nat} (h : pa_Rg rl R RT r) (h1 : ∀ i, i < 8 → R' (r * 8 + i) = nI (pa_rs rl r i)) (h2 : ∀ j, j < r * 8 → R' j = R j) : pa_Rg rl R' (upd RT r 1) (r + 1) := by
  intro q hq
  by_cases e : q = r
  · rw [e]
    exact ⟨by rw [pk_us]; decide, h1⟩
  · rw [pk_un e]
    refine ⟨(h q (by omega)).1, fun i hi => ?_⟩
    rw [h2 _ (by omega)]
    exact (h q (by omega)).2 i hi
theorem pa_xrp68 {post : Int32 → SX → Prop} {rl : Nat → Nat} {rc : Nat} (hT : pa_Tab P E) (hrc : rc ≤ 4) (hD : ∀ b, b < 6 → pa_Dr D rl b)
    (K : ∀ R' RT' : Nat → Int32, pa_Rg rl R' RT' rc → post fm (nI rc, fm, P, E, D, T, C, R', RT', MB, UR, Q)) : ∃ n, wX_repair_68 post n 0 (nI rc) fm P E D T C R RT MB UR Q := by
  refine loop_0 (σ := (Nat → Int32) × (Nat → Int32)) (fun n r s => wX_repair_68 post n (nI r) (nI rc) fm P E D T C s.1 s.2 MB UR Q) (fun r s => pa_Rg rl s.1 s.2 r) rc (R, RT) (pa_Rg0 rl R RT) ?_ ?_
  · intro n s hs
    exact br_t (nI_le (Nat.le_refl _) (by omega)) (K s.1 s.2 hs)
  · intro n r s hr hs K'
    refine br_f (nI_ge hr (by omega)) (pa_xmr hT (by omega) hD (fun R' h1 h2 => ?_))
    exact nm_r (nI_1 r) (K' (R', upd s.2 r 1) (pa_Rgs hs h1 h2))
theorem pa_xpr31 {post : Int32 → SX → Prop} {rl : Nat → Nat} {rc : Nat} (hT : pa_Tab P E) (hrc : rc ≤ 4) (hD : ∀ b, b < 6 → pa_Dr D rl b)
    (K : ∀ R' RT' : Nat → Int32, pa_Rg rl R' RT' rc → post (nI rc) (fr, fm, P, E, D, T, C, R', RT', MB, UR, Q)) : ∃ n, wX_protect_31 post (nI rc) n 0 fr fm P E D T C R RT MB UR Q := by
  refine loop_0 (σ := (Nat → Int32) × (Nat → Int32)) (fun n r s => wX_protect_31 post (nI rc) n (nI r) fr fm P E D T C s.1 s.2 MB UR Q) (fun r s => pa_Rg rl s.1 s.2 r) rc (R, RT) (pa_Rg0 rl R RT) ?_ ?_
  · intro n s hs
    exact br_t (nI_le (Nat.le_refl _) (by omega)) (K s.1 s.2 hs)
  · intro n r s hr hs K'
    refine br_f (nI_ge hr (by omega)) (pa_xmr hT (by omega) hD (fun R' h1 h2 => ?_))
    exact nm_r (nI_1 r) (K' (R', upd s.2 r 1) (pa_Rgs hs h1 h2))
theorem pa_xrp47 {post : Int32 → SX → Prop} {rl : Nat → Nat} {S : Nat → Int32} {rc : Nat} (hT : pa_Tab P E) (hrc : rc ≤ 4) (hm : pa_cn S 6 ≤ 4) (hr : ∀ j, j < 48 → rl j < 256) (hM : pa_Ml S MB 6)
    (hQ : ∀ j i, j < pa_cn S 6 → i < 8 → Q (j * 12 + (pa_cn S 6 + i)) = nI (rl (pa_en S 6 j * 8 + i))) (hG : ∀ b, b < 6 → S b = 0 → pa_G rl D T C b)
    (K : ∀ D' T' C' R' RT' : Nat → Int32, (∀ b, b < 6 → pa_G rl D' T' C' b) → pa_Rg rl R' RT' rc → post (nI (pa_cn S 6)) (nI rc, nI (pa_cn S 6), P, E, D', T', C', R', RT', MB, UR, Q)) : ∃ n, wX_repair_47 post n 0 (nI rc) (nI (pa_cn S 6)) P E D T C R RT MB UR Q := by
  refine loop_0 (σ := (Nat → Int32) × (Nat → Int32) × (Nat → Int32)) (fun n j s => wX_repair_47 post n (nI j) (nI rc) (nI (pa_cn S 6)) P E s.1 s.2.1 s.2.2 R RT MB UR Q) (fun j s => ∀ b, b < 6 → (S b = 0 ∨ pa_cn S b < j) → pa_G rl s.1 s.2.1 s.2.2 b) (pa_cn S 6) (D, T, C) (fun b hb h => hG b hb (by
    rcases h with h | h
    · exact h
    · exact absurd h (Nat.not_lt_zero _))) ?_ ?_
  · intro n s hs
    have hg : ∀ b, b < 6 → pa_G rl s.1 s.2.1 s.2.2 b := fun b hb => hs b hb (by
      by_cases z : S b = 0
      · exact Or.inl z
      · exact Or.inr (pa_cnp hb z))
    exact br_t (nI_le (Nat.le_refl _) (by omega)) (pa_xrp68 hT hrc (fun b hb => (hg b hb).1) (fun R' RT' h => K s.1 s.2.1 s.2.2 R' RT' hg h))
  · intro n j s hj hs K'
    have ep := pa_enp 6 j hj
    refine br_f (nI_ge hj (by omega)) (pa_xpb hm hj ep.1 (hM j hj) (fun i hi => hr _ (by omega)) (fun i hi => hQ j i hj hi) (fun D' h1 h2 => ?_))
    exact nm_r (nI_1 j) (K' (D', upd s.2.1 (pa_en S 6 j) 1, upd s.2.2 (pa_en S 6 j) (pa_ck D' (pa_en S 6 j))) (pa_Gs hj hs h1 h2))
theorem pa_xrp26 {post : Int32 → SX → Prop} {A v : Nat → Nat → Nat} {m : Nat} (hT : pa_Tab P E) (hm : m ≤ 4) (hA : ∀ g j, g < m → j < m → A g j < 256) (hp : ∀ k, k < m → pa_M A k k k ≠ 0) (hQ : pa_Cn m (m + 8) (pa_CT m A v 0) Q)
    (K : ∀ Q' : Nat → Int32, pa_Cn m (m + 8) (pa_CT m A v m) Q' → ∃ n, wX_repair_47 post n 0 fr (nI m) P E D T C R RT MB UR Q') : ∃ n, wX_repair_26 post n 0 fr (nI m) P E D T C R RT MB UR Q := by
  refine loop_0 (σ := Nat → Int32) (fun n k s => wX_repair_26 post n (nI k) fr (nI m) P E D T C R RT MB UR s) (fun k s => pa_Cn m (m + 8) (pa_CT m A v k) s) m Q hQ ?_ ?_
  · intro n s hs
    exact br_t (nI_le (Nat.le_refl _) (by omega)) (K s hs)
  · intro n k s hk hs K'
    refine br_f (nI_ge hk (by omega)) (pa_xelim hT hm hk hA (hp k hk) hs (fun Q' h => ?_))
    exact nm_r (nI_1 k) (K' Q' h)
/-- repair, from its list of missing blocks on -/
theorem pa_xrp {post : Int32 → SX → Prop} {rl : Nat → Nat} {S : Nat → Int32} {rc : Nat} (hT : pa_Tab P E) (hrc : rc ≤ 4) (hr : ∀ j, j < 48 → rl j < 256) (hS : ∀ b, b < 6 → pa_so T C D b = S b) (hG : ∀ b, b < 6 → S b = 0 → pa_G rl D T C b) (hR : ∀ r i, r < rc → i < 8 → R (r * 8 + i) = nI (pa_rs rl r i))
    (K1 : ¬ pa_cn S 6 ≤ pa_cn RT rc → ∀ MB' : Nat → Int32, post (-6) (nI rc, nI (pa_cn S 6), P, E, D, T, C, R, RT, MB', UR, Q))
    (K2 : pa_cn S 6 ≤ pa_cn RT rc → ∀ fm' D' T' C' R' RT' MB' UR' Q', (∀ b, b < 6 → pa_G rl D' T' C' b) → pa_Rg rl R' RT' rc → post (nI (pa_cn S 6)) (nI rc, fm', P, E, D', T', C', R', RT', MB', UR', Q')) : wpX_repair post (nI rc, fm, P, E, D, T, C, R, RT, MB, UR, Q) := by
  have hle := pa_cnle RT rc
  have hle6 := pa_cnle S 6
  refine pa_xlist (fm := fm) (MB := MB) hS (fun MB' hM => ?_)
  refine pa_xgood hrc ?_
  by_cases q : pa_cn S 6 ≤ pa_cn RT rc
  · refine br_t (nI_le q (by omega)) (pa_xse hT hrc q hM (fun b hb z => (hG b hb z).1) hR (fun UR' Q' hQ => ?_))
    have hp : ∀ k, k < pa_cn S 6 → pa_M (pa_A (pa_en RT rc) (pa_en S 6)) k k k ≠ 0 := pa_piv (by omega) (fun j hj => by have := (pa_enp (S := RT) rc j (by omega)).1; omega) (fun i j hij hj => pa_eni hij (by omega)) (fun j hj => (pa_enp (S := S) 6 j hj).1) (fun i j hij hj => pa_eni hij hj)
    have hA : ∀ g j, g < pa_cn S 6 → j < pa_cn S 6 → pa_A (pa_en RT rc) (pa_en S 6) g j < 256 := fun g j _ _ => pa_faclt _ _
    refine pa_xrp26 (A := pa_A (pa_en RT rc) (pa_en S 6)) (v := fun j i => rl (pa_en S 6 j * 8 + i)) hT (by omega) hA hp ?_ (fun Q2 h2 => pa_xrp47 hT hrc (by omega) hr hM ?_ hG (fun D' T' C' R' RT' h3 h4 => K2 q _ D' T' C' R' RT' MB' UR' Q2 h3 h4))
    · intro g c hg hc
      have h := hQ g c hc (Or.inl hg)
      have e : pa_CT (pa_cn S 6) (pa_A (pa_en RT rc) (pa_en S 6)) (fun j i => rl (pa_en S 6 j * 8 + i)) 0 g c = pa_F0 S rl (pa_en RT rc) g c := rfl
      rw [e]
      exact h
    · intro j i hj hi
      have ep := pa_enp (S := S) 6 j hj
      have h := (h2 j (pa_cn S 6 + i) hj (by omega)).2
      rw [pa_CTm hA hp hj (hr _ (by omega))] at h
      exact h
  · exact br_f (nI_ge (by omega) (by omega)) (K1 q MB')
end
end
section
section
variable {fr fm : Int32} {P E D T C R RT MB UR Q : Nat → Int32}
theorem pa_xgu23 {post : Int32 → SX → Prop} {J : Int32 → (Nat → Int32) → (Nat → Int32) → (Nat → Int32) → (Nat → Int32) → (Nat → Int32) → (Nat → Int32) → (Nat → Int32) → (Nat → Int32) → (Nat → Int32) → (Nat → Int32) → Prop} {rl : Nat → Nat} {j b : Nat} (hb : b < 6) (hz : ∀ i, i < 8 → rl (b * 8 + i) = 0)
    (K : ∀ D' : Nat → Int32, pa_Dr D' rl b → (∀ q, (q < b * 8 ∨ b * 8 + 8 ≤ q) → D' q = D q) → J (nI (j + 1)) P E D' (upd T b 1) (upd C b (pa_ck D' b)) R RT MB UR Q) : ∃ n, wX_giveUp_23 post J (nI j) (nI b) fr fm n 0 P E D T C R RT MB UR Q := by
  have ec : (nI b).toNatClampNeg = b := nI_clamp (by omega)
  have hi6 : vp_in (nI b) 6 := vp_in_nI hb (by decide)
  refine loop_0 (σ := Nat → Int32) (fun n i s => wX_giveUp_23 post J (nI j) (nI b) fr fm n (nI i) P E s T C R RT MB UR Q) (fun i s => (∀ i', i' < i → s (b * 8 + i') = 0) ∧ ∀ q, (q < b * 8 ∨ b * 8 + 8 ≤ q) → s q = D q) 8 D ⟨fun i' h => absurd h (Nat.not_lt_zero i'), fun _ _ => rfl⟩ ?_ ?_
  · intro n s hs
    exact br_t (nI_le (a := 8) (b := 8) (by decide) (by decide)) (And.intro hi6 (nm_r (e' := upd T b 1) (congrArg (fun z => upd T z 1) ec) (pa_xck hb (And.intro hi6 (nm_r (congrArg (fun z => upd C z (pa_ck s b)) ec) (nm_r (nI_1 j) (K s (fun i hi => ⟨by rw [hs.1 i hi, hz i hi, nI_0], by rw [hz i hi]; decide⟩) hs.2)))))))
  · intro n i s hi hs K'
    refine br_f (nI_ge (b := 8) hi (by decide)) (And.intro (pa_n8 (by omega) (by decide)) (nm_r (congrArg (fun z => upd s z 0) (pa_c8 (by omega) (by omega))) (nm_r (nI_1 i) (K' _ ⟨fun i' h => ?_, fun q hq => ?_⟩))))
    · by_cases e : i' = i
      · rw [e]; exact pk_us
      · rw [pk_un (by omega)]; exact hs.1 i' (by omega)
    · rw [pk_un (by omega)]; exact hs.2 q hq
theorem pa_xgu {post : Int32 → SX → Prop} {rl : Nat → Nat} {S : Nat → Int32} (hS : ∀ b, b < 6 → pa_so T C D b = S b) (hG : ∀ b, b < 6 → S b = 0 → pa_G rl D T C b) (hz : ∀ b, b < 6 → ¬ S b = 0 → ∀ i, i < 8 → rl (b * 8 + i) = 0)
    (K : ∀ D' T' C' MB' : Nat → Int32, (∀ b, b < 6 → pa_G rl D' T' C' b) → post (nI (pa_cn S 6)) (0, nI (pa_cn S 6), P, E, D', T', C', R, RT, MB', UR, Q)) : wpX_giveUp post (fr, fm, P, E, D, T, C, R, RT, MB, UR, Q) := by
  have hle6 := pa_cnle S 6
  refine pa_xlist (fm := fm) (MB := MB) hS (fun MB' hM => ?_)
  refine loop_0 (σ := (Nat → Int32) × (Nat → Int32) × (Nat → Int32)) (fun n j s => wX_giveUp_6 post fr (nI (pa_cn S 6)) n (nI j) P E s.1 s.2.1 s.2.2 R RT MB' UR Q) (fun j s => ∀ b, b < 6 → (S b = 0 ∨ pa_cn S b < j) → pa_G rl s.1 s.2.1 s.2.2 b) (pa_cn S 6) (D, T, C) (fun b hb h => hG b hb (by
    rcases h with h | h
    · exact h
    · exact absurd h (Nat.not_lt_zero _))) ?_ ?_
  · intro n s hs
    have hg : ∀ b, b < 6 → pa_G rl s.1 s.2.1 s.2.2 b := fun b hb => hs b hb (by
      by_cases z : S b = 0
      · exact Or.inl z
      · exact Or.inr (pa_cnp hb z))
    exact br_t (nI_le (Nat.le_refl _) (by omega)) (K s.1 s.2.1 s.2.2 MB' hg)
  · intro n j s hj hs K'
    have ep := pa_enp 6 j hj
    refine br_f (nI_ge hj (by omega)) (And.intro (vp_in_nI (by omega) (by decide)) (nm_r (e' := nI (pa_en S 6 j)) ((congrArg MB' (nI_clamp (by omega))).trans (hM j hj)) ?_))
    exact pa_xgu23 ep.1 (hz _ ep.1 ep.2.1) (fun D' h1 h2 => K' (D', upd s.2.1 (pa_en S 6 j) 1, upd s.2.2 (pa_en S 6 j) (pa_ck D' (pa_en S 6 j))) (pa_Gs hj hs h1 h2))
/-! write: the recovery bytes of one place -/
def pa_up (rl : Nat → Nat) (q v : Nat) : Nat → Nat := fun j => if j = q then v else rl j
theorem pa_ups {rl : Nat → Nat} {q v : Nat} : pa_up rl q v q = v := if_pos rfl
theorem pa_upn {rl : Nat → Nat} {q v j : Nat} (h : j ≠ q) : pa_up rl q v j = rl j := if_neg h
theorem pa_rsp {rl : Nat → Nat} {b p v r : Nat} (hb : b < 6) (hp : p < 8) (ho : rl (b * 8 + p) < 256) (hv : v < 256) : pa_rs (pa_up rl (b * 8 + p) v) r p = pa_rs rl r p ^^^ pa_mul (pa_fac r b) (rl (b * 8 + p) ^^^ v) := by
  unfold pa_rs
  rw [pa_sumu (f := fun b' => pa_mul (pa_fac r b') (rl (b' * 8 + p))) (b := b) 6 hb (fun j _ hn => by
    show pa_mul (pa_fac r j) (pa_up rl (b * 8 + p) v (j * 8 + p)) = pa_mul (pa_fac r j) (rl (j * 8 + p))
    rw [pa_upn (by omega)]), pa_dist ho hv, pa_ups]
theorem pa_rsn {rl : Nat → Nat} {b p v r i : Nat} (hp : p < 8) (hi : i < 8) (hn : i ≠ p) : pa_rs (pa_up rl (b * 8 + p) v) r i = pa_rs rl r i := by
  unfold pa_rs
  exact pa_sumc 6 (fun j _ => by rw [pa_upn (by omega)])
theorem pa_xw87 {post : Int32 → SX → Prop} {rl : Nat → Nat} {rc b p v : Nat} (hT : pa_Tab P E) (hrc : rc ≤ 4) (hb : b < 6) (hp : p < 8) (hv : v < 256) (ho : rl (b * 8 + p) < 256) (hR : ∀ r i, r < rc → i < 8 → R (r * 8 + i) = nI (pa_rs rl r i))
    (K : ∀ R' : Nat → Int32, (∀ r i, r < rc → i < 8 → R' (r * 8 + i) = nI (pa_rs (pa_up rl (b * 8 + p) v) r i)) → post (nI (rl (b * 8 + p))) (nI rc, fm, P, E, D, T, C, R', RT, MB, UR, Q)) : ∃ n, wX_write_87 post (nI b) (nI p) (nI v) (nI (rl (b * 8 + p))) (nI rc) fm n 0 P E D T C R RT MB UR Q := by
  refine loop_0 (σ := Nat → Int32) (fun n r s => wX_write_87 post (nI b) (nI p) (nI v) (nI (rl (b * 8 + p))) (nI rc) fm n (nI r) P E D T C s RT MB UR Q) (fun r s => (∀ r' i, r' < r → i < 8 → s (r' * 8 + i) = nI (pa_rs (pa_up rl (b * 8 + p) v) r' i)) ∧ (∀ r' i, r ≤ r' → r' < rc → i < 8 → s (r' * 8 + i) = nI (pa_rs rl r' i))) rc R ⟨fun r' i h => absurd h (Nat.not_lt_zero r'), fun r' i _ h1 h2 => hR r' i h1 h2⟩ ?_ ?_
  · intro n s hs
    exact br_t (nI_le (Nat.le_refl _) (by omega)) (K s hs.1)
  · intro n r s hr hs K'
    have h1 := hs.2 r p (Nat.le_refl r) hr hp
    refine br_f (nI_ge hr (by omega)) (pa_xfac hT (by omega) hb rfl rfl (And.intro (pa_n8 (by omega) (by decide)) (pa_xtimes hT (pa_faclt r b) (pa_xlt ho hv) rfl (nx_xor _ _) (And.intro (pa_n8 (by omega) (by decide)) (nm_r (e' := upd s (r * 8 + p) (nI (pa_rs (pa_up rl (b * 8 + p) v) r p))) ?_ (nm_r (nI_1 r) (K' _ ⟨fun r' i hr' hi => ?_, fun r' i h2 h3 h4 => ?_⟩)))))))
    · rw [pa_c8 (by omega) (by omega), h1, nx_xor, pa_rsp hb hp ho hv]
    · by_cases e : r' = r ∧ i = p
      · rw [e.1, e.2]; exact pk_us
      · rw [pk_un (by omega)]
        by_cases f : r' = r
        · rw [f, pa_rsn hp hi (by omega)]
          exact hs.2 r i (Nat.le_refl r) hr hi
        · exact hs.1 r' i (by omega) hi
    · rw [pk_un (by omega)]; exact hs.2 r' i (by omega) h3 h4
end
section
variable {fy : Int32} {L S WL : Nat → Int32}
theorem pa_yp29 {post : Int32 → SY → Prop} {x : Int32} (K : ∀ W' : Nat → Int32, (∀ r, r < 4 → W' r = 0) → post x (fy, L, S, W')) : ∃ n, wY_protect_29 post x fy n 0 L S WL := by
  refine loop_0 (σ := Nat → Int32) (fun n r s => wY_protect_29 post x fy n (nI r) L S s) (fun r s => ∀ r', r' < r → s r' = 0) 4 WL (fun r' h => absurd h (Nat.not_lt_zero r')) ?_ ?_
  · intro n s hs
    exact br_t (nI_le (a := 4) (b := 4) (by decide) (by decide)) (K s hs)
  · intro n r s hr hs K'
    refine br_f (nI_ge (b := 4) hr (by decide)) (And.intro (vp_in_nI hr (by decide)) (nm_r (e' := upd s r 0) (congrArg (fun z => upd s z 0) (nI_clamp (by omega))) (nm_r (nI_1 r) (K' _ (fun r' h => ?_)))))
    by_cases e : r' = r
    · rw [e]; exact pk_us
    · rw [pk_un e]; exact hs r' (by omega)
theorem pa_yr39 {post : Int32 → SY → Prop} {x : Int32} (K : ∀ W' : Nat → Int32, (∀ r, r < 4 → W' r = 0) → post x (fy, L, S, W')) : ∃ n, wY_repair_39 post x fy n 0 L S WL := by
  refine loop_0 (σ := Nat → Int32) (fun n r s => wY_repair_39 post x fy n (nI r) L S s) (fun r s => ∀ r', r' < r → s r' = 0) 4 WL (fun r' h => absurd h (Nat.not_lt_zero r')) ?_ ?_
  · intro n s hs
    exact br_t (nI_le (a := 4) (b := 4) (by decide) (by decide)) (K s hs)
  · intro n r s hr hs K'
    refine br_f (nI_ge (b := 4) hr (by decide)) (And.intro (vp_in_nI hr (by decide)) (nm_r (e' := upd s r 0) (congrArg (fun z => upd s z 0) (nI_clamp (by omega))) (nm_r (nI_1 r) (K' _ (fun r' h => ?_)))))
    by_cases e : r' = r
    · rw [e]; exact pk_us
    · rw [pk_un e]; exact hs r' (by omega)
theorem pa_yr18 {post : Int32 → SY → Prop} {x : Int32} (K : ∀ S' W' : Nat → Int32, (∀ b, b < 6 → S' b = 0) → (∀ r, r < 4 → W' r = 0) → post x (fy, L, S', W')) : ∃ n, wY_repair_18 post x fy n 0 L S WL := by
  refine loop_0 (σ := Nat → Int32) (fun n r s => wY_repair_18 post x fy n (nI r) L s WL) (fun r s => ∀ r', r' < r → s r' = 0) 6 S (fun r' h => absurd h (Nat.not_lt_zero r')) ?_ ?_
  · intro n s hs
    exact br_t (nI_le (a := 6) (b := 6) (by decide) (by decide)) (pa_yr39 (fun W' h => K s W' hs h))
  · intro n r s hr hs K'
    refine br_f (nI_ge (b := 6) hr (by decide)) (And.intro (vp_in_nI hr (by decide)) (nm_r (e' := upd s r 0) (congrArg (fun z => upd s z 0) (nI_clamp (by omega))) (nm_r (nI_1 r) (K' _ (fun r' h => ?_)))))
    by_cases e : r' = r
    · rw [e]; exact pk_us
    · rw [pk_un e]; exact hs r' (by omega)
theorem pa_yg40 {post : Int32 → SY → Prop} {x : Int32} (K : ∀ S' : Nat → Int32, (∀ b, b < 6 → S' b = 0) → post x (0, L, S', WL)) : ∃ n, wY_giveUp_40 post x fy n 0 L S WL := by
  refine loop_0 (σ := Nat → Int32) (fun n r s => wY_giveUp_40 post x fy n (nI r) L s WL) (fun r s => ∀ r', r' < r → s r' = 0) 6 S (fun r' h => absurd h (Nat.not_lt_zero r')) ?_ ?_
  · intro n s hs
    exact br_t (nI_le (a := 6) (b := 6) (by decide) (by decide)) (K s hs)
  · intro n r s hr hs K'
    refine br_f (nI_ge (b := 6) hr (by decide)) (And.intro (vp_in_nI hr (by decide)) (nm_r (e' := upd s r 0) (congrArg (fun z => upd s z 0) (nI_clamp (by omega))) (nm_r (nI_1 r) (K' _ (fun r' h => ?_)))))
    by_cases e : r' = r
    · rw [e]; exact pk_us
    · rw [pk_un e]; exact hs r' (by omega)
theorem pa_yg7 {post : Int32 → SY → Prop} {x : Int32} (K : ∀ L' S' : Nat → Int32, (∀ j, j < 48 → L' j = if S (j / 8) = 0 then L j else 0) → (∀ b, b < 6 → S' b = 0) → post x (0, L', S', WL)) : ∃ n, wY_giveUp_7 post x fy n 0 L S WL := by
  refine loop_0 (σ := Nat → Int32) (fun n i s => wY_giveUp_7 post x fy n (nI i) s S WL) (fun i s => (∀ j, j < i → s j = if S (j / 8) = 0 then L j else 0) ∧ ∀ j, i ≤ j → s j = L j) 48 L ⟨fun j h => absurd h (Nat.not_lt_zero j), fun _ _ => rfl⟩ ?_ ?_
  · intro n s hs
    exact br_t (nI_le (a := 48) (b := 48) (by decide) (by decide)) (pa_yg40 (fun S' h => K s S' hs.1 h))
  · intro n i s hi hs K'
    have e : nI i / 8 = nI (i / 8) := pk_div (d := 8) (by omega) (by decide) (by decide)
    have ec : (nI i / 8).toNatClampNeg = i / 8 := by rw [e, nI_clamp (by omega)]
    refine br_f (nI_ge (b := 48) hi (by decide)) (And.intro (by decide) (And.intro (by rw [e]; exact vp_in_nI (by omega) (by decide)) ?_))
    by_cases z : S (i / 8) = 0
    · refine br_t ((congrArg S ec).trans z) (nm_r (nI_1 i) (K' _ ⟨fun j hj => ?_, fun j hj => hs.2 j (by omega)⟩))
      by_cases f : j = i
      · rw [f, if_pos z]; exact hs.2 i (Nat.le_refl i)
      · exact hs.1 j (by omega)
    · refine br_f (fun y => z ((congrArg S ec).symm.trans y)) (And.intro (vp_in_nI hi (by decide)) (nm_r (e' := upd s i 0) (congrArg (fun y => upd s y 0) (nI_clamp (by omega))) (nm_r (nI_1 i) (K' _ ⟨fun j hj => ?_, fun j hj => ?_⟩))))
      · by_cases f : j = i
        · rw [f, if_neg z]; exact pk_us
        · rw [pk_un f]; exact hs.1 j (by omega)
      · rw [pk_un (by omega)]; exact hs.2 j (by omega)
theorem pa_ym18 {post : Int32 → Prop} {rc bad : Nat} {RT : Nat → Int32} (hr : rc ≤ 4) (hw : ∀ r, r < rc → (RT r = 0 ↔ ¬ WL r = 0)) (hb : bad ≤ pa_cn RT rc) (h : post (nI (pa_cn RT rc - bad))) : ∃ n, wY_margin_18 post (nI bad) (nI rc) L S WL n 0 := by
  have hle := pa_cnle RT rc
  have e6 : 6 - nI bad = nI (6 - bad) := pk_sub (a := 6) (by omega)
  refine loop_0 (σ := Unit) (fun n i _ => wY_margin_18 post (nI bad) (nI rc) L S WL n (nI i)) (fun _ _ => True) (pa_cn RT rc - bad) () trivial ?_ ?_
  · intro n s _
    refine br_f (by rw [e6]; exact nI_ge (by omega) (by omega)) (pa_yspare hr hw (br_t ?_ h))
    rw [nI_add, nI_1]
    exact nI_lt (by omega) (by omega)
  · intro n i s hi _ K'
    refine br_f (by rw [e6]; exact nI_ge (by omega) (by omega)) (pa_yspare hr hw (br_f ?_ (nm_r (nI_1 i) (K' () trivial))))
    rw [nI_add, nI_1]
    exact nI_nlt (by omega) (by omega)
end
end
section
/-! the constructor -/
section
variable {fr fm : Int32} {P E D T C R RT MB UR Q : Nat → Int32}
theorem pa_xi144 {post : SX → Prop} (K : ∀ T' C' : Nat → Int32, (∀ b, b < 6 → ¬ T' b = 0 ∧ C' b = pa_ck D b) → post (fr, fm, P, E, D, T', C', R, RT, MB, UR, Q)) : ∃ n, wX_init_144 post fr fm n 0 P E D T C R RT MB UR Q := by
  refine loop_0 (σ := (Nat → Int32) × (Nat → Int32)) (fun n b s => wX_init_144 post fr fm n (nI b) P E D s.1 s.2 R RT MB UR Q) (fun b s => ∀ b', b' < b → ¬ s.1 b' = 0 ∧ s.2 b' = pa_ck D b') 6 (T, C) (fun b' h => absurd h (Nat.not_lt_zero b')) ?_ ?_
  · intro n s hs
    exact br_t (nI_le (a := 6) (b := 6) (by decide) (by decide)) (K s.1 s.2 hs)
  · intro n b s hb hs K'
    have ec : (nI b).toNatClampNeg = b := nI_clamp (by omega)
    have hi6 : vp_in (nI b) 6 := vp_in_nI hb (by decide)
    refine br_f (nI_ge (b := 6) hb (by decide)) (And.intro hi6 (nm_r (e' := upd s.1 b 1) (congrArg (fun z => upd s.1 z 1) ec) (pa_xck hb (And.intro hi6 (nm_r (congrArg (fun z => upd s.2 z (pa_ck D b)) ec) (nm_r (nI_1 b) (K' (upd s.1 b 1, upd s.2 b (pa_ck D b)) (fun b' h => ?_))))))))
    try dsimp only
    by_cases e : b' = b
    · rw [e]
      exact ⟨by rw [pk_us]; decide, pk_us⟩
    · rw [pk_un e, pk_un e]
      exact hs b' (by omega)
theorem pa_tabmk (h : ∀ j, j < 255 → P j = nI (pa_pw j) ∧ E (pa_pw j) = nI j) : pa_Tab (upd P 255 1) E := by
  refine ⟨fun j hj => ?_, fun x h0 hx => ?_⟩
  · rw [pk_un (by omega)]; exact (h j hj).1
  · have t := pa_t4 x hx h0
    have a := (h (pa_ex x) t.1).2
    rw [t.2] at a
    exact a
theorem pa_xi89 {post : SX → Prop} (K : ∀ P' E' T' C' : Nat → Int32, pa_Tab P' E' → (∀ b, b < 6 → ¬ T' b = 0 ∧ C' b = pa_ck D b) → post (fr, fm, P', E', D, T', C', R, RT, MB, UR, Q)) : ∃ n, wX_init_89 post fr fm n 1 0 P E D T C R RT MB UR Q := by
  refine loop_0 (σ := Int32 × (Nat → Int32) × (Nat → Int32)) (fun n i s => wX_init_89 post fr fm n s.1 (nI i) s.2.1 s.2.2 D T C R RT MB UR Q) (fun i s => s.1 = nI (pa_pw (i % 255)) ∧ ∀ j, j < i → s.2.1 j = nI (pa_pw j) ∧ s.2.2 (pa_pw j) = nI j) 255 (1, P, E) ⟨by
    show (1 : Int32) = nI (pa_pw 0)
    rw [pa_pw0]
    rfl, fun j h => absurd h (Nat.not_lt_zero j)⟩ ?_ ?_
  · intro n s hs
    exact br_t (nI_le (a := 255) (b := 255) (by decide) (by decide)) (nm_e (pa_xi144 (fun T' C' h => K _ _ T' C' (pa_tabmk hs.2) h)))
  · intro n i s hi hs K'
    obtain ⟨x, P1, E1⟩ := s
    obtain ⟨h1, h2⟩ := hs
    dsimp only at h1 h2
    rw [Nat.mod_eq_of_lt hi] at h1
    subst h1
    have hw := pa_pwlt i
    have es : nI (pa_pw i) <<< ((1 : Int32) &&& 31) = nI (pa_pw i * 2) := pk_shlN _ 1 (by decide) (by omega)
    have hx := pa_mxp hi
    have hn : ∀ j, j < i + 1 → upd P1 i (nI (pa_pw i)) j = nI (pa_pw j) ∧ upd E1 (pa_pw i) (nI i) (pa_pw j) = nI j := by
      intro j hj
      by_cases e : j = i
      · rw [e]; exact ⟨pk_us, pk_us⟩
      · have hne : pa_pw j ≠ pa_pw i := by
          intro q
          have a := (pa_t3 j (by omega)).1
          have b := (pa_t3 i hi).1
          rw [q, b] at a
          exact e a.symm
        rw [pk_un e, pk_un hne]
        exact h2 j (by omega)
    refine br_f (nI_ge (b := 255) hi (by decide)) (And.intro (vp_in_nI (by omega) (by decide)) (nm_r (e' := upd P1 i (nI (pa_pw i))) (congrArg (fun z => upd P1 z (nI (pa_pw i))) (nI_clamp (by omega))) (And.intro (vp_in_nI hw (by decide)) (nm_r (e' := upd E1 (pa_pw i) (nI i)) (congrArg (fun z => upd E1 z (nI i)) (nI_clamp (by omega))) (nm_r es ?_)))))
    by_cases q : pa_pw i * 2 ≤ 255
    · have e : pa_mx (pa_pw i) = pa_pw i * 2 := if_pos q
      refine br_t (nI_le (b := 255) q (by decide)) (nm_r (nI_1 i) (K' (nI (pa_pw i * 2), upd P1 i (nI (pa_pw i)), upd E1 (pa_pw i) (nI i)) ⟨?_, hn⟩))
      try dsimp only
      rw [← e, hx]
    · have e : pa_mx (pa_pw i) = (pa_pw i * 2) ^^^ 285 := if_neg q
      refine br_f (nI_ge (a := 255) (by omega) (by omega)) (nm_r (e' := nI ((pa_pw i * 2) ^^^ 285)) (nx_xor (pa_pw i * 2) 285) (nm_r (nI_1 i) (K' (nI ((pa_pw i * 2) ^^^ 285), upd P1 i (nI (pa_pw i)), upd E1 (pa_pw i) (nI i)) ⟨?_, hn⟩)))
      try dsimp only
      rw [← e, hx]
end
end
section
/-! the relation -/
def pa_I (rc : Nat) (rl : Nat → Nat) (P E D T C R RT L S WL : Nat → Int32) : Prop :=
  rc ≤ 4 ∧ pa_Tab P E ∧ (∀ j, j < 48 → rl j < 256 ∧ L j = nI (rl j)) ∧ (∀ b, b < 6 → pa_so T C D b = S b ∧ C b = pa_ck L b ∧ (S b = 0 → ∀ i, i < 8 → D (b * 8 + i) = L (b * 8 + i))) ∧ (∀ r, r < rc → (RT r = 0 ↔ ¬ WL r = 0) ∧ ∀ i, i < 8 → R (r * 8 + i) = nI (pa_rs rl r i))
def i_Rel (k : Nat) (u : SX) (v : SY) : Prop := match u, v with
  | (fr, _, P, E, D, T, C, R, RT, _, _, _), (fy, L, S, WL) => ∃ (rc : Nat) (rl : Nat → Nat), fr = nI rc ∧ fy = nI rc ∧ pa_I rc rl P E D T C R RT L S WL
theorem i_up {k : Nat} {u : SX} {v : SY} (h : i_Rel k u v) : i_Rel (k + 4) u v := h
section
variable {fm : Int32} {P E D T C R RT MB UR Q L S WL : Nat → Int32} {rc : Nat} {rl : Nat → Nat}
theorem pa_rel {k : Nat} (h : pa_I rc rl P E D T C R RT L S WL) : i_Rel k (nI rc, fm, P, E, D, T, C, R, RT, MB, UR, Q) (nI rc, L, S, WL) := Exists.intro rc (Exists.intro rl (And.intro rfl (And.intro rfl h)))
theorem pa_IG (h : pa_I rc rl P E D T C R RT L S WL) : ∀ b, b < 6 → S b = 0 → pa_G rl D T C b := by
  intro b hb z
  have hb' := h.2.2.2.1 b hb
  rw [z] at hb'
  have s := pa_so0 hb'.1
  refine ⟨fun i hi => ?_, s.1, s.2⟩
  have l := h.2.2.1 (b * 8 + i) (by omega)
  exact ⟨(hb'.2.2 rfl i hi).trans l.2, l.1⟩
theorem pa_IS (h : pa_I rc rl P E D T C R RT L S WL) : ∀ b, b < 6 → pa_so T C D b = S b := fun b hb => (h.2.2.2.1 b hb).1
theorem pa_IR (h : pa_I rc rl P E D T C R RT L S WL) : ∀ r i, r < rc → i < 8 → R (r * 8 + i) = nI (pa_rs rl r i) := fun r i hr hi => (h.2.2.2.2 r hr).2 i hi
theorem pa_IW (h : pa_I rc rl P E D T C R RT L S WL) : ∀ r, r < rc → (RT r = 0 ↔ ¬ WL r = 0) := fun r hr => (h.2.2.2.2 r hr).1
theorem pa_mk (hrc : rc ≤ 4) (hT : pa_Tab P E) (hL : ∀ j, j < 48 → rl j < 256 ∧ L j = nI (rl j)) (hG : ∀ b, b < 6 → pa_G rl D T C b) (hS : ∀ b, b < 6 → S b = 0) (hR : pa_Rg rl R RT rc) (hW : ∀ r, r < rc → WL r = 0) : pa_I rc rl P E D T C R RT L S WL := by
  refine ⟨hrc, hT, hL, fun b hb => ?_, fun r hr => ?_⟩
  · have g := hG b hb
    have d : ∀ i, i < 8 → D (b * 8 + i) = L (b * 8 + i) := fun i hi => (g.1 i hi).1.trans (hL _ (by omega)).2.symm
    exact ⟨(pa_so0' g.2.1 g.2.2).trans (hS b hb).symm, by rw [g.2.2, pa_ckc d], fun _ => d⟩
  · exact ⟨⟨fun z => absurd z (hR r hr).1, fun z => absurd (hW r hr) z⟩, (hR r hr).2⟩
/-- a block is lost -/
theorem pa_Ilose {b : Nat} (h : pa_I rc rl P E D T C R RT L S WL) : pa_I rc rl P E D (upd T b 0) C R RT L (upd S b 1) WL := by
  refine ⟨h.1, h.2.1, h.2.2.1, fun b' hb' => ?_, h.2.2.2.2⟩
  have g := h.2.2.2.1 b' hb'
  by_cases e : b' = b
  · subst e
    refine ⟨?_, g.2.1, fun z => ?_⟩
    · rw [pk_us]; exact pa_sol pk_us
    · rw [pk_us] at z
      exact absurd z (by decide)
  · rw [pk_un e]
    exact ⟨(pa_soc (pk_un e) rfl (fun _ _ => rfl)).trans g.1, g.2⟩
/-- a recovery block is lost -/
theorem pa_IloseR {r : Nat} (h : pa_I rc rl P E D T C R RT L S WL) : pa_I rc rl P E D T C R (upd RT r 0) L S (upd WL r 1) := by
  refine ⟨h.1, h.2.1, h.2.2.1, h.2.2.2.1, fun r' hr' => ?_⟩
  have g := h.2.2.2.2 r' hr'
  by_cases e : r' = r
  · subst e
    rw [pk_us, pk_us]
    exact ⟨⟨fun _ => by decide, fun _ => rfl⟩, g.2⟩
  · rw [pk_un e, pk_un e]
    exact g
/-- a byte is spoiled -/
theorem pa_Ispoil {b p w : Nat} (h : pa_I rc rl P E D T C R RT L S WL) (hb : b < 6) (hp : p < 8) (hz : S b = 0) (hw : w < 256) (h0 : w ≠ 0) : pa_I rc rl P E (upd D (b * 8 + p) (nI (rl (b * 8 + p) ^^^ w))) T C R RT L (upd S b 2) WL := by
  have gb := pa_IG h b hb hz
  have hr := gb.1 p hp
  have hx := pa_xlt hr.2 hw
  refine ⟨h.1, h.2.1, h.2.2.1, fun b' hb' => ?_, h.2.2.2.2⟩
  have g := h.2.2.2.1 b' hb'
  by_cases e : b' = b
  · subst e
    have hne : rl (b' * 8 + p) ^^^ w ≠ rl (b' * 8 + p) := by
      intro q
      have a : rl (b' * 8 + p) ^^^ (rl (b' * 8 + p) ^^^ w) = w := by rw [← Nat.xor_assoc, Nat.xor_self, Nat.zero_xor]
      rw [q, Nat.xor_self] at a
      exact h0 a.symm
    have hck : ¬ pa_ck (upd D (b' * 8 + p) (nI (rl (b' * 8 + p) ^^^ w))) b' = C b' := by
      rw [gb.2.2]
      refine pa_ckn hp ?_ (fun i hi hn => pk_un (by omega))
      rw [pk_us, hr.1]
      exact fun q => hne ((nI_eq (by omega) (by omega)).mp q)
    refine ⟨?_, g.2.1, fun z => ?_⟩
    · rw [pk_us]; exact pa_so2 gb.2.1 hck
    · rw [pk_us] at z
      exact absurd z (by decide)
  · rw [pk_un e]
    have d : ∀ i, i < 8 → upd D (b * 8 + p) (nI (rl (b * 8 + p) ^^^ w)) (b' * 8 + i) = D (b' * 8 + i) := fun i hi => pk_un (by omega)
    exact ⟨(pa_soc rfl rfl d).trans g.1, g.2.1, fun z i hi => (d i hi).trans (g.2.2 z i hi)⟩
/-- a byte is written -/
theorem pa_Iwrite {b p v : Nat} {R' : Nat → Int32} (h : pa_I rc rl P E D T C R RT L S WL) (hb : b < 6) (hp : p < 8) (hz : S b = 0) (hv : v < 256) (hR : ∀ r i, r < rc → i < 8 → R' (r * 8 + i) = nI (pa_rs (pa_up rl (b * 8 + p) v) r i)) :
    pa_I rc (pa_up rl (b * 8 + p) v) P E (upd D (b * 8 + p) (nI v)) T (upd C b (pa_ck (upd D (b * 8 + p) (nI v)) b)) R' RT (upd L (b * 8 + p) (nI v)) S WL := by
  have gb := pa_IG h b hb hz
  refine ⟨h.1, h.2.1, fun j hj => ?_, fun b' hb' => ?_, fun r hr => ⟨(h.2.2.2.2 r hr).1, fun i hi => hR r i hr hi⟩⟩
  · by_cases e : j = b * 8 + p
    · rw [e, pa_ups, pk_us]
      exact ⟨hv, rfl⟩
    · rw [pa_upn e, pk_un e]
      exact h.2.2.1 j hj
  · have g := h.2.2.2.1 b' hb'
    by_cases e : b' = b
    · subst e
      have d : ∀ i, i < 8 → upd D (b' * 8 + p) (nI v) (b' * 8 + i) = upd L (b' * 8 + p) (nI v) (b' * 8 + i) := by
        intro i hi
        by_cases f : i = p
        · rw [f, pk_us, pk_us]
        · rw [pk_un (by omega), pk_un (by omega)]
          exact g.2.2 hz i hi
      refine ⟨?_, ?_, fun _ => d⟩
      · rw [hz]
        exact pa_so0' gb.2.1 pk_us
      · rw [pk_us, pa_ckc d]
    · have d : ∀ i, i < 8 → upd D (b * 8 + p) (nI v) (b' * 8 + i) = D (b' * 8 + i) := fun i hi => pk_un (by omega)
      have l : ∀ i, i < 8 → upd L (b * 8 + p) (nI v) (b' * 8 + i) = L (b' * 8 + i) := fun i hi => pk_un (by omega)
      refine ⟨(pa_soc rfl (pk_un e) d).trans g.1, ?_, fun z i hi => ?_⟩
      · rw [pk_un e, pa_ckc l]; exact g.2.1
      · rw [d i hi, l i hi]; exact g.2.2 z i hi
end
/-! the two sides' checks of their arguments -/
theorem pa_xbbo {post : Int32 → Prop} {x : Int32} (hx : (x < 0 ∧ ¬ 0 ≤ x) ∨ (¬ x < 0 ∧ ¬ x < 6 ∧ ¬ x ≤ 5)) (h : post 1) : wpX_badBlock post x := by
  rcases hx with n | n
  · exact br_t n.1 h
  · exact br_f n.1 (br_f n.2.1 h)
theorem pa_xbpo {post : Int32 → Prop} {x : Int32} (hx : (x < 0 ∧ ¬ 0 ≤ x) ∨ (¬ x < 0 ∧ ¬ x < 8 ∧ ¬ x ≤ 7)) (h : post 1) : wpX_badPlace post x := by
  rcases hx with n | n
  · exact br_t n.1 h
  · exact br_f n.1 (br_f n.2.1 h)
section
variable {fy : Int32} {L S WL : Nat → Int32}
theorem pa_yref1 {post : Int32 → Prop} {x y z : Int32} (hx : (x < 0 ∧ ¬ 0 ≤ x) ∨ (¬ x < 0 ∧ ¬ x < 6 ∧ ¬ x ≤ 5)) (h : post (-1)) : wpY_refusal post (fy, L, S, WL) x y z := by
  rcases hx with n | n
  · exact br_t n.1 h
  · exact br_f n.1 (br_f n.2.2 h)
theorem pa_yref2 {post : Int32 → Prop} {b : Nat} {y z : Int32} (hb : b < 6) (hy : (y < 0 ∧ ¬ 0 ≤ y) ∨ (¬ y < 0 ∧ ¬ y < 8 ∧ ¬ y ≤ 7)) (h : post (-2)) : wpY_refusal post (fy, L, S, WL) (nI b) y z := by
  refine br_f (nI_pos (by omega)) (br_t (nI_le (b := 5) (by omega) (by decide)) ?_)
  rcases hy with n | n
  · exact br_t n.1 h
  · exact br_f n.1 (br_f n.2.2 h)
theorem pa_yref3 {post : Int32 → Prop} {b p : Nat} {z : Int32} (hb : b < 6) (hp : p < 8) (hz : z < 0 ∨ (¬ z < 0 ∧ ¬ z ≤ 255)) (h : post (-3)) : wpY_refusal post (fy, L, S, WL) (nI b) (nI p) z := by
  refine br_f (nI_pos (by omega)) (br_t (nI_le (b := 5) (by omega) (by decide)) (br_f (nI_pos (by omega)) (br_t (nI_le (b := 7) (by omega) (by decide)) ?_)))
  rcases hz with n | n
  · exact br_t n h
  · exact br_f n.1 (br_f n.2 h)
theorem pa_yref4 {post : Int32 → Prop} {b p : Nat} {z : Int32} (hb : b < 6) (hp : p < 8) (hz : ¬ z < 0) (hz2 : z ≤ 255) (h0 : S b = 0 → post 0) (h4 : ¬ S b = 0 → post (-4)) : wpY_refusal post (fy, L, S, WL) (nI b) (nI p) z := by
  have ec : (nI b).toNatClampNeg = b := nI_clamp (by omega)
  refine br_f (nI_pos (by omega)) (br_t (nI_le (b := 5) (by omega) (by decide)) (br_f (nI_pos (by omega)) (br_t (nI_le (b := 7) (by omega) (by decide)) (br_f hz (br_t hz2 (And.intro (vp_in_nI hb (by decide)) ?_))))))
  exact br_c (fun q => h0 ((congrArg S ec).symm.trans q)) (fun q => h4 (fun y => q ((congrArg S ec).trans y)))
end
end
section
theorem i_vc0 : wpX_init (fun u => wpY_init (fun v => i_Rel 0 u v)) := by
  refine pa_xi89 (fun P' E' T' C' hT h => ?_)
  refine Exists.intro 0 (Exists.intro (fun _ => 0) (And.intro rfl (And.intro rfl ?_)))
  exact pa_mk (by decide) hT (fun j _ => ⟨show (0 : Nat) < 256 from by decide, rfl⟩) (fun b hb => ⟨fun i hi => ⟨rfl, show (0 : Nat) < 256 from by decide⟩, (h b hb).1, (h b hb).2⟩) (fun _ _ => rfl) (pa_Rg0 _ _ _) (fun r hr => absurd hr (Nat.not_lt_zero r))
theorem i_vc_write {k : Nat} {u : SX} {v : SY} (I : i_Rel k u v) (hk : k + 4 ≤ 2048) (v1 : Int32) (v2 : Int32) (v3 : Int32) : wpX_write (fun r u' => wpY_write (fun r' v' => r' = r ∧ i_Rel (k + 4) u' v') v v1 v2 v3) u v1 v2 v3 := by
  obtain ⟨fr, fm, P, E, D, T, C, R, RT, MB, UR, Q⟩ := u
  obtain ⟨fy, L, S, WL⟩ := v
  obtain ⟨rc, rl, rfl, rfl, h⟩ := I
  unfold wpX_write wpY_write
  try dsimp only
  have o1 := pa_out v1
  rw [← or_assoc] at o1
  rcases o1 with n | ⟨b, hb, rfl⟩
  · exact pa_xbbo n (br_f (by decide) (pa_yref1 n (br_f (by decide) ⟨rfl, pa_rel h⟩)))
  refine pa_xbb hb (br_t rfl ?_)
  have o2 := pa_outp v2
  rw [← or_assoc] at o2
  rcases o2 with n | ⟨p, hp, rfl⟩
  · exact pa_xbpo n (br_f (by decide) (pa_yref2 hb n (br_f (by decide) ⟨rfl, pa_rel h⟩)))
  refine pa_xbp hp (br_t rfl ?_)
  by_cases n3 : v3 < 0
  · exact br_t n3 (pa_yref3 hb hp (Or.inl n3) (br_f (by decide) ⟨rfl, pa_rel h⟩))
  by_cases q3 : v3 ≤ 255
  · obtain ⟨w, hw, rfl⟩ := nI_of2 (M := 255) (n := 255) (by decide) n3 q3
    refine br_f n3 (br_t q3 (pa_xso hb ?_))
    rw [pa_IS h b hb]
    by_cases z : S b = 0
    · have hD := (pa_IG h b hb z).1 p hp
      have hL := (h.2.2.1 (b * 8 + p) (by omega)).2
      have ec : (nI b).toNatClampNeg = b := nI_clamp (by omega)
      have hi6 : vp_in (nI b) 6 := vp_in_nI hb (by decide)
      refine br_t z (nm_r (pa_i8 b p) (And.intro (vp_in_nI (by omega) (by decide)) (nm_r (e' := nI (rl (b * 8 + p))) ((congrArg D (nI_clamp (by omega))).trans hD.1) (And.intro (vp_in_nI (by omega) (by decide)) (nm_r (e' := upd D (b * 8 + p) (nI w)) (congrArg (fun y => upd D y (nI w)) (nI_clamp (by omega))) (pa_xck hb (And.intro hi6 (nm_r (congrArg (fun y => upd C y (pa_ck (upd D (b * 8 + p) (nI w)) b)) ec) ?_))))))))
      refine pa_xw87 h.2.1 h.1 hb hp (by omega) hD.2 (pa_IR h) (fun R' hR => ?_)
      exact pa_yref4 hb hp n3 q3 (fun _ => br_t (by decide) (And.intro (pa_n8 (by omega) (by decide)) (nm_r (e' := nI (rl (b * 8 + p))) ((congrArg L (pa_c8 (by omega) (by omega))).trans hL) (And.intro (pa_n8 (by omega) (by decide)) (nm_r (e' := upd L (b * 8 + p) (nI w)) (congrArg (fun y => upd L y (nI w)) (pa_c8 (by omega) (by omega))) ⟨rfl, pa_rel (pa_Iwrite h hb hp z (by omega) hR)⟩))))) (fun y => absurd z y)
    · exact br_f z (pa_yref4 hb hp n3 q3 (fun y => absurd y z) (fun _ => br_f (by decide) ⟨rfl, pa_rel h⟩))
  · exact br_f n3 (br_f q3 (pa_yref3 hb hp (Or.inr ⟨n3, q3⟩) (br_f (by decide) ⟨rfl, pa_rel h⟩)))
theorem i_vc_protect {k : Nat} {u : SX} {v : SY} (I : i_Rel k u v) (hk : k + 4 ≤ 2048) (v1 : Int32) : wpX_protect (fun r u' => wpY_protect (fun r' v' => r' = r ∧ i_Rel (k + 4) u' v') v v1) u v1 := by
  obtain ⟨fr, fm, P, E, D, T, C, R, RT, MB, UR, Q⟩ := u
  obtain ⟨fy, L, S, WL⟩ := v
  obtain ⟨rc, rl, rfl, rfl, h⟩ := I
  unfold wpX_protect wpY_protect
  try dsimp only
  have hle6 := pa_cnle S 6
  by_cases n : v1 < 0
  · exact br_t n (br_t n ⟨rfl, pa_rel h⟩)
  by_cases q : v1 ≤ 4
  · obtain ⟨m, hm, rfl⟩ := nI_of2 (M := 4) (n := 4) (by decide) n q
    refine br_f n (br_t q (pa_xbad (pa_IS h) ?_))
    by_cases z : pa_cn S 6 = 0
    · have hS := pa_cn0 6 z
      have e : nI (pa_cn S 6) ≤ 0 := by rw [z]; decide
      have hG : ∀ b, b < 6 → pa_G rl D T C b := fun b hb => pa_IG h b hb (hS b hb)
      refine br_t e (pa_xpr31 h.2.1 hm (fun b hb => (hG b hb).1) (fun R' RT' hR => ?_))
      exact br_f n (br_t q (pa_ybad (br_t e (pa_yp29 (fun W' hW => ⟨rfl, pa_rel (pa_mk hm h.2.1 h.2.2.1 hG hS hR (fun r hr => hW r (by omega)))⟩)))))
    · have e : ¬ nI (pa_cn S 6) ≤ 0 := nI_nle (by omega) (by omega)
      exact br_f e (br_f n (br_t q (pa_ybad (br_f e ⟨rfl, pa_rel h⟩))))
  · exact br_f n (br_f q (br_f n (br_f q ⟨rfl, pa_rel h⟩)))
theorem i_vc_lose {k : Nat} {u : SX} {v : SY} (I : i_Rel k u v) (hk : k + 4 ≤ 2048) (v1 : Int32) : wpX_lose (fun r u' => wpY_lose (fun r' v' => r' = r ∧ i_Rel (k + 4) u' v') v v1) u v1 := by
  obtain ⟨fr, fm, P, E, D, T, C, R, RT, MB, UR, Q⟩ := u
  obtain ⟨fy, L, S, WL⟩ := v
  obtain ⟨rc, rl, rfl, rfl, h⟩ := I
  unfold wpX_lose wpY_lose
  try dsimp only
  rcases pa_out v1 with n | n | ⟨b, hb, rfl⟩
  · exact pa_xbbo (Or.inl n) (br_f (by decide) (br_t n.1 ⟨rfl, pa_rel h⟩))
  · exact pa_xbbo (Or.inr n) (br_f (by decide) (br_f n.1 (br_f n.2.2 ⟨rfl, pa_rel h⟩)))
  · have ec : (nI b).toNatClampNeg = b := nI_clamp (by omega)
    have hi6 : vp_in (nI b) 6 := vp_in_nI hb (by decide)
    refine pa_xbb hb (br_t rfl (pa_xso hb (And.intro hi6 (nm_r (e' := upd T b 0) (congrArg (fun y => upd T y 0) ec) ?_))))
    exact br_f (nI_pos (by omega)) (br_t (nI_le (b := 5) (by omega) (by decide)) (And.intro hi6 (nm_r (e' := S b) (congrArg S ec) (And.intro hi6 (nm_r (e' := upd S b 1) (congrArg (fun y => upd S y 1) ec) ⟨(pa_IS h b hb).symm, pa_rel (pa_Ilose h)⟩)))))
theorem i_vc_loseRecovery {k : Nat} {u : SX} {v : SY} (I : i_Rel k u v) (hk : k + 4 ≤ 2048) (v1 : Int32) : wpX_loseRecovery (fun r u' => wpY_loseRecovery (fun r' v' => r' = r ∧ i_Rel (k + 4) u' v') v v1) u v1 := by
  obtain ⟨fr, fm, P, E, D, T, C, R, RT, MB, UR, Q⟩ := u
  obtain ⟨fy, L, S, WL⟩ := v
  obtain ⟨rc, rl, rfl, rfl, h⟩ := I
  unfold wpX_loseRecovery wpY_loseRecovery
  try dsimp only
  have h4 := h.1
  by_cases n : v1 < 0
  · exact br_t n (br_t n ⟨rfl, pa_rel h⟩)
  by_cases q : v1 < nI rc
  · obtain ⟨r, hr, rfl⟩ := nI_of n
    have hrc : r < rc := (nI_ltI hr (by omega)).mp q
    have ec : (nI r).toNatClampNeg = r := nI_clamp hr
    have hi4 : vp_in (nI r) 4 := vp_in_nI (by omega) (by decide)
    have hw := pa_IW h r hrc
    refine br_f n (br_t q (And.intro hi4 ?_))
    by_cases z : RT r = 0
    · refine br_t ((congrArg RT ec).trans z) ?_
      unfold wX_loseRecovery_29 wY_loseRecovery_29
      refine And.intro hi4 (nm_r (e' := upd RT r 0) (congrArg (fun y => upd RT y 0) ec) ?_)
      exact br_f n (br_t q (And.intro hi4 (br_f (fun y => hw.mp z ((congrArg WL ec).symm.trans y)) (And.intro hi4 (nm_r (e' := upd WL r 1) (congrArg (fun y => upd WL y 1) ec) ⟨rfl, pa_rel (pa_IloseR h)⟩)))))
    · have w : WL r = 0 := Classical.byContradiction (fun y => z (hw.mpr y))
      refine br_f (fun y => z ((congrArg RT ec).symm.trans y)) ?_
      unfold wX_loseRecovery_29 wY_loseRecovery_29
      refine And.intro hi4 (nm_r (e' := upd RT r 0) (congrArg (fun y => upd RT y 0) ec) ?_)
      exact br_f n (br_t q (And.intro hi4 (br_t ((congrArg WL ec).trans w) (And.intro hi4 (nm_r (e' := upd WL r 1) (congrArg (fun y => upd WL y 1) ec) ⟨rfl, pa_rel (pa_IloseR h)⟩)))))
  · exact br_f n (br_f q (br_f n (br_f q ⟨rfl, pa_rel h⟩)))
theorem pa_updid (D : Nat → Int32) (q : Nat) : upd D q (D q) = D := by
  funext j
  by_cases e : j = q
  · rw [e]; exact pk_us
  · exact pk_un e
theorem i_vc_spoil {k : Nat} {u : SX} {v : SY} (I : i_Rel k u v) (hk : k + 4 ≤ 2048) (v1 : Int32) (v2 : Int32) (v3 : Int32) : wpX_spoil (fun r u' => wpY_spoil (fun r' v' => r' = r ∧ i_Rel (k + 4) u' v') v v1 v2 v3) u v1 v2 v3 := by
  obtain ⟨fr, fm, P, E, D, T, C, R, RT, MB, UR, Q⟩ := u
  obtain ⟨fy, L, S, WL⟩ := v
  obtain ⟨rc, rl, rfl, rfl, h⟩ := I
  unfold wpX_spoil wpY_spoil
  try dsimp only
  have o1 := pa_out v1
  rw [← or_assoc] at o1
  rcases o1 with n | ⟨b, hb, rfl⟩
  · exact pa_xbbo n (br_f (by decide) (pa_yref1 n (br_f (by decide) ⟨rfl, pa_rel h⟩)))
  refine pa_xbb hb (br_t rfl ?_)
  have o2 := pa_outp v2
  rw [← or_assoc] at o2
  rcases o2 with n | ⟨p, hp, rfl⟩
  · exact pa_xbpo n (br_f (by decide) (pa_yref2 hb n (br_f (by decide) ⟨rfl, pa_rel h⟩)))
  refine pa_xbp hp (br_t rfl (pa_xso hb ?_))
  rw [pa_IS h b hb]
  by_cases z : S b = 0
  · have hD := (pa_IG h b hb z).1 p hp
    have ec : (nI b).toNatClampNeg = b := nI_clamp (by omega)
    have hi6 : vp_in (nI b) 6 := vp_in_nI hb (by decide)
    obtain ⟨w, hw, ew⟩ := pk_andE v3 (m := 255) 8 (by decide)
    rw [ew]
    have e' : upd D (nI b * 8 + nI p).toNatClampNeg (D (nI b * 8 + nI p).toNatClampNeg ^^^ nI w) = upd D (b * 8 + p) (nI (rl (b * 8 + p) ^^^ w)) := by
      rw [pa_c8 (by omega) (by omega), hD.1, nx_xor]
    refine br_t z (And.intro (pa_n8 (by omega) (by decide)) (And.intro (pa_n8 (by omega) (by decide)) (nm_r e' (pa_xso hb ?_))))
    by_cases w0 : w = 0
    · have ed : upd D (b * 8 + p) (nI (rl (b * 8 + p) ^^^ w)) = D := by
        rw [w0, Nat.xor_zero, ← hD.1]
        exact pa_updid D _
      rw [ed, pa_IS h b hb]
      have ez : nI w = 0 := by rw [w0]; rfl
      exact pa_yref4 hb hp (by decide) (by decide) (fun _ => br_t (by decide) (br_t ez (And.intro hi6 ⟨congrArg S ec, pa_rel h⟩))) (fun y => absurd z y)
    · have hI := pa_Ispoil h hb hp z hw w0
      have ez : ¬ nI w = 0 := nI_ne0 (by omega) (by omega)
      have es := pa_IS hI b hb
      rw [es]
      exact pa_yref4 hb hp (by decide) (by decide) (fun _ => br_t (by decide) (br_f ez (And.intro hi6 (nm_r (e' := upd S b 2) (congrArg (fun y => upd S y 2) ec) (And.intro hi6 ⟨congrArg (upd S b 2) ec, pa_rel hI⟩))))) (fun y => absurd z y)
  · exact br_f z (pa_yref4 hb hp (by decide) (by decide) (fun y => absurd y z) (fun _ => br_f (by decide) ⟨rfl, pa_rel h⟩))
theorem i_vc_repair {k : Nat} {u : SX} {v : SY} (I : i_Rel k u v) (hk : k + 4 ≤ 2048) : wpX_repair (fun r u' => wpY_repair (fun r' v' => r' = r ∧ i_Rel (k + 4) u' v') v) u := by
  obtain ⟨fr, fm, P, E, D, T, C, R, RT, MB, UR, Q⟩ := u
  obtain ⟨fy, L, S, WL⟩ := v
  obtain ⟨rc, rl, rfl, rfl, h⟩ := I
  have hle := pa_cnle RT rc
  have hle6 := pa_cnle S 6
  have h4 := h.1
  refine pa_xrp (rl := rl) (S := S) h.2.1 h.1 (fun j hj => (h.2.2.1 j hj).1) (pa_IS h) (pa_IG h) (pa_IR h) (fun q MB' => ?_) (fun q fm' D' T' C' R' RT' MB' UR' Q' hG hR => ?_)
  · unfold wpY_repair
    try dsimp only
    exact pa_ybad (pa_yspare h4 (pa_IW h) (br_f (nI_ge (by omega) (by omega)) ⟨rfl, pa_rel h⟩))
  · unfold wpY_repair
    try dsimp only
    exact pa_ybad (pa_yspare h4 (pa_IW h) (br_t (nI_le q (by omega)) (pa_yr18 (fun S' W' hS hW => ⟨rfl, pa_rel (pa_mk h4 h.2.1 h.2.2.1 hG hS hR (fun r hr => hW r (by omega)))⟩))))
theorem i_vc_giveUp {k : Nat} {u : SX} {v : SY} (I : i_Rel k u v) (hk : k + 4 ≤ 2048) : wpX_giveUp (fun r u' => wpY_giveUp (fun r' v' => r' = r ∧ i_Rel (k + 4) u' v') v) u := by
  obtain ⟨fr, fm, P, E, D, T, C, R, RT, MB, UR, Q⟩ := u
  obtain ⟨fy, L, S, WL⟩ := v
  obtain ⟨rc, rl, rfl, rfl, h⟩ := I
  refine pa_xgu (rl := fun j => if S (j / 8) = 0 then rl j else 0) (pa_IS h) (fun b hb z => ?_) (fun b hb z i hi => ?_) (fun D' T' C' MB' hG => ?_)
  · have g := pa_IG h b hb z
    refine ⟨fun i hi => ?_, g.2⟩
    try dsimp only
    rw [show (b * 8 + i) / 8 = b from by omega, if_pos z]
    exact g.1 i hi
  · try dsimp only
    rw [show (b * 8 + i) / 8 = b from by omega, if_neg z]
  · unfold wpY_giveUp
    try dsimp only
    refine pa_ybad (pa_yg7 (fun L' S' hL hS => ⟨rfl, pa_rel (rc := 0) (pa_mk (by decide) h.2.1 (fun j hj => ?_) hG hS (pa_Rg0 _ _ _) (fun r hr => absurd hr (Nat.not_lt_zero r)))⟩))
    have l := h.2.2.1 j hj
    rw [hL j hj]
    try dsimp only
    by_cases z : S (j / 8) = 0
    · rw [if_pos z, if_pos z]; exact l
    · rw [if_neg z, if_neg z]; exact ⟨by decide, rfl⟩
theorem i_vc_read {k : Nat} {u : SX} {v : SY} (I : i_Rel k u v) (hk : k + 4 ≤ 2048) (v1 : Int32) (v2 : Int32) : wpX_read (fun r => wpY_read (fun r' => r' = r ∧ i_Rel (k + 4) u v) v v1 v2) u v1 v2 := by
  obtain ⟨fr, fm, P, E, D, T, C, R, RT, MB, UR, Q⟩ := u
  obtain ⟨fy, L, S, WL⟩ := v
  obtain ⟨rc, rl, rfl, rfl, h⟩ := I
  unfold wpX_read wpY_read
  try dsimp only
  have o1 := pa_out v1
  rw [← or_assoc] at o1
  rcases o1 with n | ⟨b, hb, rfl⟩
  · exact pa_xbbo n (br_f (by decide) (pa_yref1 n (br_f (by decide) ⟨rfl, pa_rel h⟩)))
  refine pa_xbb hb (br_t rfl ?_)
  have o2 := pa_outp v2
  rw [← or_assoc] at o2
  rcases o2 with n | ⟨p, hp, rfl⟩
  · exact pa_xbpo n (br_f (by decide) (pa_yref2 hb n (br_f (by decide) ⟨rfl, pa_rel h⟩)))
  refine pa_xbp hp (br_t rfl (pa_xso hb ?_))
  rw [pa_IS h b hb]
  by_cases z : S b = 0
  · have d := (h.2.2.2.1 b hb).2.2 z p hp
    refine br_t z (And.intro (pa_n8 (by omega) (by decide)) ?_)
    refine pa_yref4 hb hp (by decide) (by decide) (fun _ => br_t (by decide) (And.intro (pa_n8 (by omega) (by decide)) ⟨?_, pa_rel h⟩)) (fun y => absurd z y)
    rw [pa_c8 (by omega) (by omega)]
    exact d.symm
  · exact br_f z (pa_yref4 hb hp (by decide) (by decide) (fun y => absurd y z) (fun _ => br_f (by decide) ⟨rfl, pa_rel h⟩))
theorem i_vc_state {k : Nat} {u : SX} {v : SY} (I : i_Rel k u v) (hk : k + 4 ≤ 2048) (v1 : Int32) : wpX_state (fun r => wpY_state (fun r' => r' = r ∧ i_Rel (k + 4) u v) v v1) u v1 := by
  obtain ⟨fr, fm, P, E, D, T, C, R, RT, MB, UR, Q⟩ := u
  obtain ⟨fy, L, S, WL⟩ := v
  obtain ⟨rc, rl, rfl, rfl, h⟩ := I
  unfold wpX_state wpY_state
  try dsimp only
  rcases pa_out v1 with n | n | ⟨b, hb, rfl⟩
  · exact pa_xbbo (Or.inl n) (br_f (by decide) (br_t n.1 ⟨rfl, pa_rel h⟩))
  · exact pa_xbbo (Or.inr n) (br_f (by decide) (br_f n.1 (br_f n.2.2 ⟨rfl, pa_rel h⟩)))
  · have ec : (nI b).toNatClampNeg = b := nI_clamp (by omega)
    refine pa_xbb hb (br_t rfl (pa_xso hb ?_))
    exact br_f (nI_pos (by omega)) (br_t (nI_le (b := 5) (by omega) (by decide)) (And.intro (vp_in_nI hb (by decide)) ⟨(congrArg S ec).trans (pa_IS h b hb).symm, pa_rel h⟩))
theorem i_vc_spare {k : Nat} {u : SX} {v : SY} (I : i_Rel k u v) (hk : k + 4 ≤ 2048) : wpX_spare (fun r => wpY_spare (fun r' => r' = r ∧ i_Rel (k + 4) u v) v) u := by
  obtain ⟨fr, fm, P, E, D, T, C, R, RT, MB, UR, Q⟩ := u
  obtain ⟨fy, L, S, WL⟩ := v
  obtain ⟨rc, rl, rfl, rfl, h⟩ := I
  unfold wpX_spare
  try dsimp only
  exact pa_xgood h.1 (pa_yspare h.1 (pa_IW h) ⟨rfl, pa_rel h⟩)
theorem i_vc_margin {k : Nat} {u : SX} {v : SY} (I : i_Rel k u v) (hk : k + 4 ≤ 2048) : wpX_margin (fun r => wpY_margin (fun r' => r' = r ∧ i_Rel (k + 4) u v) v) u := by
  obtain ⟨fr, fm, P, E, D, T, C, R, RT, MB, UR, Q⟩ := u
  obtain ⟨fy, L, S, WL⟩ := v
  obtain ⟨rc, rl, rfl, rfl, h⟩ := I
  have hle := pa_cnle RT rc
  have hle6 := pa_cnle S 6
  have h4 := h.1
  unfold wpX_margin wpY_margin
  try dsimp only
  refine pa_xbad (pa_IS h) (pa_xgood h4 ?_)
  by_cases q : pa_cn S 6 ≤ pa_cn RT rc
  · have e6 : 6 - nI (pa_cn S 6) = nI (6 - pa_cn S 6) := pk_sub (a := 6) (by omega)
    have es : nI (pa_cn RT rc) - nI (pa_cn S 6) = nI (pa_cn RT rc - pa_cn S 6) := pk_sub q
    refine br_t (nI_le q (by omega)) (nm_r e6 ?_)
    rw [es]
    exact br_f (nI_ge (by omega) (by omega)) (pa_ybad (pa_yspare h4 (pa_IW h) (br_t (nI_le q (by omega)) (pa_ym18 h4 (pa_IW h) q ⟨rfl, pa_rel h⟩))))
  · have e : ¬ nI (pa_cn S 6) ≤ nI (pa_cn RT rc) := nI_ge (by omega) (by omega)
    exact br_f e (pa_ybad (pa_yspare h4 (pa_IW h) (br_f e ⟨rfl, pa_rel h⟩)))
end
