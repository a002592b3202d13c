section
theorem pk_us {f : Nat → Int32} {k : Nat} {x : Int32} : upd f k x k = x := if_pos rfl
theorem pk_un {f : Nat → Int32} {k j : Nat} {x : Int32} (h : j ≠ k) : upd f k x j = f j := if_neg h
theorem pk_sub {a b : Nat} (h : b ≤ a) : nI a - nI b = nI (a - b) := by
  obtain ⟨c, rfl⟩ : ∃ c, a = c + b := ⟨a - b, by omega⟩
  rw [← nI_add, Int32.add_sub_cancel, Nat.add_sub_cancel]
theorem pk_mul (a b : Nat) : nI a * nI b = nI (a * b) := (Int32.ofNat_mul a b).symm
theorem pk_div {a d : Nat} (ha : a < 2 ^ 31) (h0 : 0 < d) (hd : d < 2 ^ 31) : nI a / nI d = nI (a / d) := by
  apply Int32.toInt_inj.mp
  rw [lg_idiv_nonneg (by rw [nI_toInt ha]; omega) (by rw [nI_toInt hd]; omega), nI_toInt ha, nI_toInt hd, nI_toInt (Nat.lt_of_le_of_lt (Nat.div_le_self a d) ha)]
  first | rfl | exact (Int.natCast_ediv _ _).symm
theorem pk_rem {a d : Nat} (ha : a < 2 ^ 31) (h0 : 0 < d) (hd : d < 2 ^ 31) : nI a - nI a / nI d * nI d = nI (a % d) := by
  rw [pk_div ha h0 hd, pk_mul, pk_sub (Nat.div_mul_le_self a d)]
  exact congrArg nI (by have := Nat.div_add_mod' a d; omega)
theorem pk_ix (x : Int32) {n : Nat} (hn : n < 2 ^ 31) : x < 0 ∨ nI n ≤ x ∨ ∃ j : Nat, j < n ∧ x = nI j := by
  by_cases h : x < 0
  · exact Or.inl h
  · obtain ⟨j, hj, rfl⟩ := nI_of h
    by_cases h2 : j < n
    · exact Or.inr (Or.inr ⟨j, h2, rfl⟩)
    · exact Or.inr (Or.inl (nI_le (by omega) hj))
theorem pk_le {x y : Int32} {A B : Prop} (a b : Nat) (f : a ≤ b → A) (g : b < a → B) (hx : x = nI a := by rfl) (hy : y = nI b := by rfl) (ha : a < 2 ^ 31 := by omega) (hb : b < 2 ^ 31 := by omega) : (x ≤ y → A) ∧ (¬ x ≤ y → B) := by
  subst hx hy
  rw [nI_leI ha hb]
  exact ⟨f, fun z => g (by omega)⟩
theorem pk_lt {x y : Int32} {A B : Prop} (a b : Nat) (f : a < b → A) (g : b ≤ a → B) (hx : x = nI a := by rfl) (hy : y = nI b := by rfl) (ha : a < 2 ^ 31 := by omega) (hb : b < 2 ^ 31 := by omega) : (x < y → A) ∧ (¬ x < y → B) := by
  subst hx hy
  rw [nI_ltI ha hb]
  exact ⟨f, fun z => g (by omega)⟩
theorem pk_eq {x y : Int32} {A B : Prop} (a b : Nat) (f : a = b → A) (g : a ≠ b → B) (hx : x = nI a := by rfl) (hy : y = nI b := by rfl) (ha : a < 2 ^ 31 := by omega) (hb : b < 2 ^ 31 := by omega) : (x = y → A) ∧ (¬ x = y → B) := by
  subst hx hy
  rw [nI_eq ha hb]
  exact ⟨f, g⟩
theorem pk_in {x : Int32} (n N : Nat) (h : n < N) (hx : x = nI n := by rfl) (hN : N < 2 ^ 31 := by omega) : vp_in x N := by
  subst hx
  exact vp_in_nI h hN
theorem pk_cl {x : Int32} (n : Nat) (hx : x = nI n := by rfl) (h : n < 2 ^ 31 := by omega) : x.toNatClampNeg = n := by
  subst hx
  exact nI_clamp h
theorem pk_tn {n : Nat} (h : n < 2 ^ 32) : (nI n).toBitVec.toNat = n := Nat.mod_eq_of_lt h
theorem pk_and (x : Int32) {m : Int32} (k : Nat) (hm : m.toBitVec.toNat = 2 ^ k - 1) : x &&& m = nI (x.toBitVec.toNat % 2 ^ k) := by
  apply Int32.toBitVec_inj.mp
  apply BitVec.eq_of_toNat_eq
  rw [Int32.toBitVec_and, BitVec.toNat_and, hm, Nat.and_two_pow_sub_one_eq_mod]
  show _ = (BitVec.ofNat 32 _).toNat
  rw [BitVec.toNat_ofNat]
  exact (Nat.mod_eq_of_lt (Nat.lt_of_le_of_lt (Nat.mod_le _ _) x.toBitVec.isLt)).symm
theorem pk_shl (a s : Int32) (k : Nat) (hs : (s.toBitVec.smod 32).toNat = k) : (a <<< s).toBitVec.toNat = a.toBitVec.toNat * 2 ^ k % 2 ^ 32 := by
  show (a.toBitVec <<< (s.toBitVec.smod 32).toNat).toNat = _
  rw [hs, BitVec.toNat_shiftLeft, Nat.shiftLeft_eq]
theorem pk_shlN {n : Nat} (s : Int32) (k : Nat) (hs : (s.toBitVec.smod 32).toNat = k) (h : n * 2 ^ k < 2 ^ 32) : nI n <<< s = nI (n * 2 ^ k) := by
  apply Int32.toBitVec_inj.mp
  apply BitVec.eq_of_toNat_eq
  have hn : n < 2 ^ 32 := Nat.lt_of_le_of_lt (Nat.le_mul_of_pos_right n (Nat.two_pow_pos k)) h
  rw [pk_shl _ _ k hs, pk_tn hn, pk_tn h, Nat.mod_eq_of_lt h]
theorem nx_xor (a b : Nat) : nI a ^^^ nI b = nI (a ^^^ b) := by
  apply Int32.toBitVec_inj.1
  show BitVec.ofNat 32 a ^^^ BitVec.ofNat 32 b = BitVec.ofNat 32 (a ^^^ b)
  apply BitVec.eq_of_getLsbD_eq
  intro i hi
  simp [hi]
end
section
/-- the int of a byte -/
def gf_I (b : BitVec 8) : Int32 := nI b.toNat
/-- twice an element of the field of 256 elements (polynomial 285) -/
def gf_xt (x : BitVec 8) : BitVec 8 := (x <<< 1) ^^^ (if x.msb = true then 29#8 else 0#8)
/-- n times twice -/
def gf_xi : Nat → BitVec 8 → BitVec 8
  | 0, x => x
  | n + 1, x => gf_xt (gf_xi n x)
/-- powers of 2 -/
def gf_pw (n : Nat) : BitVec 8 := gf_xi n 1#8
/-- table of powers, a byte an entry -/
def gf_pT (k : Nat) : Nat := (0x8e47add86c361b83cfe9fa7db0582c160b8bcbebfbf3f7f5f47a3d90482412098a45ac562b9bc3eff9f279b259a251a653a7dde070381c0e078dc86432198241ae57a5dc6e3795c46231964babdbe3fff1f67bb3d7e5fc7e3f91c663bfd1e673b7d5e472399249aa55a452299a4da8542a158442219e4fa9da6db85c2e1785cc663397c5ec763b93c7edf87c3e1f81ce67bdd068341a0d884422118643afd9e271b65ba3dfe1fe7fb1d66bbbd3e7fdf0783c1e0f89ca65bc5e2f99c261be5fa1de6fb9d269ba5da05028140a058c46239fc1ee77b5d46a35944a259c4e279dc06030180c06038fc9ea75b45a2d984c261387cde8743a1d8040201008040201 >>> (8 * k)) % 256
/-- table of logarithms, a byte an entry -/
def gf_lT (k : Nat) : Nat := (0xaf5850a8eaf4d674e8ade7e6e9d5ae4fd72c757aeb16f50b51a0a99cb05f59cb5a3eccbbb18660fbaa559d29523ba16cf66f0c7fec4917c476a47bb7d8432d1fa2416d4753393c849e5d2a14abd356f261befcdcb2978790cdcfbc955bd13f372e892023d99244117cb4b8267799a5e318fec531edde4a670d63808cf7c0700757a7f373ace5d44e2b79150a9f9b5eca3dba85fa54283a6b6e7e48c3a3b6421e404638835c13d2f1bddb968fce94d03688229110b32598e2fd30dd66628bbf06a672e44d78099ac9b9f9276a7dc2b51d458212f0da8e9335210f24e12f658a05714c08c8f869c11c81ef8d340ee064044bc7681bee33df03c61a320219010000 >>> (8 * k)) % 256
def gf_lg (x : BitVec 8) : Nat := gf_lT x.toNat
theorem gf_tab1 : ∀ k, k < 255 → (gf_xt (BitVec.ofNat 8 (gf_pT k))).toNat = gf_pT ((k + 1) % 255) := by decide +kernel
theorem gf_tab2 : ∀ k, k < 255 → gf_lT (gf_pT k) = k := by decide +kernel
theorem gf_tab3 : ∀ n, n < 256 → n ≠ 0 → gf_lT n < 255 ∧ gf_pT (gf_lT n) = n := by decide +kernel
theorem gf_tab4 : ∀ n, n < 256 → (gf_xt (BitVec.ofNat 8 n)).toNat = (if n * 2 ≤ 255 then n * 2 else (n * 2) ^^^ 285) := by decide +kernel
theorem gf_tab5 : ∀ n, n < 256 → gf_xt (BitVec.ofNat 8 n) = 0#8 → n = 0 := by decide +kernel
theorem gf_of (x : BitVec 8) : BitVec.ofNat 8 x.toNat = x := by simp
theorem gf_xt_xor (a b : BitVec 8) : gf_xt (a ^^^ b) = gf_xt a ^^^ gf_xt b := by
  unfold gf_xt
  have e : (if (a ^^^ b).msb = true then 29#8 else 0#8) = (if a.msb = true then 29#8 else 0#8) ^^^ (if b.msb = true then 29#8 else 0#8) := by
    rw [BitVec.msb_xor]
    cases a.msb <;> cases b.msb <;> decide
  rw [BitVec.shiftLeft_xor_distrib, e]
  ac_rfl
theorem gf_xt_0 : gf_xt 0#8 = 0#8 := by decide
theorem gf_xt_z {x : BitVec 8} (h : gf_xt x = 0#8) : x = 0#8 := by
  have h2 := gf_tab5 x.toNat x.isLt (by rw [gf_of]; exact h)
  apply BitVec.eq_of_toNat_eq
  rw [h2]; rfl
theorem gf_xt_n (x : BitVec 8) : (gf_xt x).toNat = (if x.toNat * 2 ≤ 255 then x.toNat * 2 else (x.toNat * 2) ^^^ 285) := by
  have h := gf_tab4 x.toNat x.isLt
  rw [gf_of] at h
  exact h
theorem gf_xi_xor (n : Nat) (a b : BitVec 8) : gf_xi n (a ^^^ b) = gf_xi n a ^^^ gf_xi n b := by
  induction n with
  | zero => rfl
  | succ n ih => show gf_xt _ = gf_xt _ ^^^ gf_xt _; rw [ih, gf_xt_xor]
theorem gf_xi_0 (n : Nat) : gf_xi n 0#8 = 0#8 := by
  induction n with
  | zero => rfl
  | succ n ih => show gf_xt _ = _; rw [ih, gf_xt_0]
theorem gf_xi_z {n : Nat} {x : BitVec 8} (h : gf_xi n x = 0#8) : x = 0#8 := by
  induction n with
  | zero => exact h
  | succ n ih => exact ih (gf_xt_z h)
theorem gf_xi_inj {n : Nat} {x y : BitVec 8} (h : gf_xi n x = gf_xi n y) : x = y := by
  apply BitVec.xor_eq_zero_iff.mp
  apply gf_xi_z (n := n)
  rw [gf_xi_xor, h, BitVec.xor_self]
theorem gf_xi_add (m n : Nat) (x : BitVec 8) : gf_xi (m + n) x = gf_xi m (gf_xi n x) := by
  induction m with
  | zero => rw [Nat.zero_add]; rfl
  | succ m ih => rw [Nat.succ_add]; show gf_xt _ = gf_xt _; rw [ih]
theorem gf_pw_add (m n : Nat) : gf_pw (m + n) = gf_xi m (gf_pw n) := gf_xi_add m n _
theorem gf_pw_s (n : Nat) : gf_pw (n + 1) = gf_xt (gf_pw n) := rfl
theorem gf_pw_ne (n : Nat) : gf_pw n ≠ 0#8 := fun h => absurd (gf_xi_z h) (by decide)
theorem gf_pw_T : ∀ k, k < 255 → (gf_pw k).toNat = gf_pT k := by
  intro k
  induction k with
  | zero => intro _; decide +kernel
  | succ k ih =>
    intro hk
    have e := ih (by omega)
    have t := gf_tab1 k (by omega)
    rw [← e, gf_of, Nat.mod_eq_of_lt hk] at t
    exact t
theorem gf_pw_255 : gf_pw 255 = 1#8 := by
  apply BitVec.eq_of_toNat_eq
  have e := gf_pw_T 254 (by decide)
  have t := gf_tab1 254 (by decide)
  rw [← e, gf_of] at t
  exact t.trans (by decide +kernel)
theorem gf_pw_per (m : Nat) : gf_pw (m + 255) = gf_pw m := by
  rw [gf_pw_add, gf_pw_255]; rfl
theorem gf_lg_pw {k : Nat} (h : k < 255) : gf_lg (gf_pw k) = k := by
  unfold gf_lg
  rw [gf_pw_T k h]
  exact gf_tab2 k h
theorem gf_nz {x : BitVec 8} (h : x ≠ 0#8) : x.toNat ≠ 0 := fun e => h (BitVec.eq_of_toNat_eq (by rw [e]; rfl))
theorem gf_lg_lt {x : BitVec 8} (h : x ≠ 0#8) : gf_lg x < 255 := (gf_tab3 x.toNat x.isLt (gf_nz h)).1
theorem gf_pw_lg {x : BitVec 8} (h : x ≠ 0#8) : gf_pw (gf_lg x) = x := by
  apply BitVec.eq_of_toNat_eq
  rw [gf_pw_T _ (gf_lg_lt h)]
  exact (gf_tab3 x.toNat x.isLt (gf_nz h)).2
/-- the product in the field -/
def gf_gm (a b : BitVec 8) : BitVec 8 := if a = 0#8 then 0#8 else if b = 0#8 then 0#8 else gf_pw (gf_lg a + gf_lg b)
/-- the quotient in the field -/
def gf_gd (a b : BitVec 8) : BitVec 8 := if a = 0#8 then 0#8 else gf_pw (gf_lg a + 255 - gf_lg b)
theorem gf_gm_0l (b : BitVec 8) : gf_gm 0#8 b = 0#8 := if_pos rfl
theorem gf_gm_0r (a : BitVec 8) : gf_gm a 0#8 = 0#8 := by
  unfold gf_gm
  by_cases h : a = 0#8
  · rw [if_pos h]
  · rw [if_neg h, if_pos rfl]
theorem gf_gm_n {a b : BitVec 8} (ha : a ≠ 0#8) (hb : b ≠ 0#8) : gf_gm a b = gf_pw (gf_lg a + gf_lg b) := by
  unfold gf_gm
  rw [if_neg ha, if_neg hb]
theorem gf_gm_xi {a : BitVec 8} (ha : a ≠ 0#8) (b : BitVec 8) : gf_gm a b = gf_xi (gf_lg a) b := by
  by_cases hb : b = 0#8
  · rw [hb, gf_gm_0r, gf_xi_0]
  · rw [gf_gm_n ha hb, gf_pw_add, gf_pw_lg hb]
theorem gf_gm_comm (a b : BitVec 8) : gf_gm a b = gf_gm b a := by
  by_cases ha : a = 0#8
  · rw [ha, gf_gm_0l, gf_gm_0r]
  · by_cases hb : b = 0#8
    · rw [hb, gf_gm_0l, gf_gm_0r]
    · rw [gf_gm_n ha hb, gf_gm_n hb ha, Nat.add_comm]
theorem gf_gm_xor (a b c : BitVec 8) : gf_gm a (b ^^^ c) = gf_gm a b ^^^ gf_gm a c := by
  by_cases ha : a = 0#8
  · rw [ha, gf_gm_0l, gf_gm_0l, gf_gm_0l, BitVec.xor_self]
  · rw [gf_gm_xi ha, gf_gm_xi ha, gf_gm_xi ha, gf_xi_xor]
theorem gf_xor_gm (a b c : BitVec 8) : gf_gm (a ^^^ b) c = gf_gm a c ^^^ gf_gm b c := by
  rw [gf_gm_comm, gf_gm_xor, gf_gm_comm c a, gf_gm_comm c b]
theorem gf_gm_ne {a b : BitVec 8} (ha : a ≠ 0#8) (hb : b ≠ 0#8) : gf_gm a b ≠ 0#8 := by
  rw [gf_gm_n ha hb]
  exact gf_pw_ne _
theorem gf_gm_assoc (a b c : BitVec 8) : gf_gm (gf_gm a b) c = gf_gm a (gf_gm b c) := by
  by_cases ha : a = 0#8
  · rw [ha, gf_gm_0l, gf_gm_0l, gf_gm_0l]
  · by_cases hb : b = 0#8
    · rw [hb, gf_gm_0r, gf_gm_0l, gf_gm_0r]
    · by_cases hc : c = 0#8
      · rw [hc, gf_gm_0r, gf_gm_0r, gf_gm_0r]
      · rw [gf_gm_comm _ c, gf_gm_n ha hb, gf_gm_n hb hc, gf_gm_xi hc, gf_gm_xi ha, ← gf_pw_add, ← gf_pw_add]
        congr 1
        omega
theorem gf_gm_lc (a b c : BitVec 8) : gf_gm a (gf_gm b c) = gf_gm b (gf_gm a c) := by
  rw [← gf_gm_assoc, gf_gm_comm a b, gf_gm_assoc]
theorem gf_lg_1 : gf_lg 1#8 = 0 := by decide +kernel
theorem gf_gm_1 (x : BitVec 8) : gf_gm 1#8 x = x := by
  rw [gf_gm_xi (by decide), gf_lg_1]; rfl
theorem gf_gm_1r (x : BitVec 8) : gf_gm x 1#8 = x := by rw [gf_gm_comm, gf_gm_1]
theorem gf_gd_gm {y : BitVec 8} (hy : y ≠ 0#8) (x : BitVec 8) : gf_gd (gf_gm y x) y = x := by
  unfold gf_gd
  by_cases hx : x = 0#8
  · rw [hx, gf_gm_0r, if_pos rfl]
  · have hz := gf_gm_ne hy hx
    rw [if_neg hz]
    apply gf_xi_inj (n := gf_lg y)
    have hl := gf_lg_lt hy
    rw [← gf_pw_add, ← gf_gm_xi hy, show gf_lg y + (gf_lg (gf_gm y x) + 255 - gf_lg y) = gf_lg (gf_gm y x) + 255 from by omega, gf_pw_per, gf_pw_lg hz]
/-- the int of a byte -/
theorem gf_I_lt (b : BitVec 8) : b.toNat < 256 := b.isLt
theorem gf_I_0 : gf_I 0#8 = 0 := by decide +kernel
theorem gf_I_1 : gf_I 1#8 = 1 := by decide +kernel
theorem gf_I_eq0 (b : BitVec 8) : gf_I b = 0 ↔ b = 0#8 := by
  unfold gf_I
  have hb := b.isLt
  rw [← nI_0, nI_eq (by omega) (by omega)]
  constructor
  · intro h
    apply BitVec.eq_of_toNat_eq
    rw [h]; rfl
  · intro h; rw [h]; rfl
theorem gf_I_xor (a b : BitVec 8) : gf_I a ^^^ gf_I b = gf_I (a ^^^ b) := by
  unfold gf_I
  rw [nx_xor, BitVec.toNat_xor]
theorem gf_I_cl (b : BitVec 8) : (gf_I b).toNatClampNeg = b.toNat := nI_clamp (by have hb := b.isLt; omega)
theorem gf_I_in (b : BitVec 8) : vp_in (gf_I b) 256 := vp_in_nI b.isLt (by decide)
/-- the low byte of an int -/
theorem gf_I_and (x : Int32) : ∃ b : BitVec 8, x &&& 255 = gf_I b := by
  refine ⟨BitVec.ofNat 8 (x.toBitVec.toNat % 2 ^ 8), ?_⟩
  rw [pk_and x 8 (by decide)]
  unfold gf_I
  rw [BitVec.toNat_ofNat, Nat.mod_mod]
end
section
/-- the weight of a place in a sum -/
def gf_wt (s p : Nat) : BitVec 8 := if s = 0 then (if p ≤ 4 then 1#8 else 0#8) else if p ≤ 3 then gf_pw p else if p = 5 then 1#8 else 0#8
/-- a weighted sum of the first n places -/
def gf_sm (w l : Nat → BitVec 8) : Nat → BitVec 8
  | 0 => 0#8
  | n + 1 => gf_sm w l n ^^^ gf_gm (w n) (l n)
theorem gf_sm_s (w l : Nat → BitVec 8) (n : Nat) : gf_sm w l (n + 1) = gf_sm w l n ^^^ gf_gm (w n) (l n) := rfl
theorem gf_sm_congr {w a b : Nat → BitVec 8} : ∀ n : Nat, (∀ k, k < n → a k = b k) → gf_sm w a n = gf_sm w b n := by
  intro n
  induction n with
  | zero => intro _; rfl
  | succ n ih =>
    intro h
    rw [gf_sm_s, gf_sm_s, ih (fun k hk => h k (by omega)), h n (by omega)]
theorem gf_sm_0 (w : Nat → BitVec 8) (n : Nat) : gf_sm w (fun _ => 0#8) n = 0#8 := by
  induction n with
  | zero => rfl
  | succ n ih => rw [gf_sm_s, ih, gf_gm_0r, BitVec.xor_self]
theorem gf_sm_xor (w a b : Nat → BitVec 8) (n : Nat) : gf_sm w (fun i => a i ^^^ b i) n = gf_sm w a n ^^^ gf_sm w b n := by
  induction n with
  | zero => exact BitVec.xor_self.symm
  | succ n ih =>
    rw [gf_sm_s, gf_sm_s, gf_sm_s, ih, gf_gm_xor]
    ac_rfl
theorem gf_gm_sm (c : BitVec 8) (w a : Nat → BitVec 8) (n : Nat) : gf_gm c (gf_sm w a n) = gf_sm w (fun j => gf_gm c (a j)) n := by
  induction n with
  | zero => exact gf_gm_0r c
  | succ n ih => rw [gf_sm_s, gf_sm_s, gf_gm_xor, ih, gf_gm_lc]
theorem gf_sm_swap (w v : Nat → BitVec 8) (A : Nat → Nat → BitVec 8) (m n : Nat) : gf_sm w (fun i => gf_sm v (fun j => A i j) n) m = gf_sm v (fun j => gf_sm w (fun i => A i j) m) n := by
  induction m with
  | zero => exact (gf_sm_0 v n).symm
  | succ m ih =>
    rw [gf_sm_s, ih, gf_gm_sm, ← gf_sm_xor]
    rfl
theorem gf_sm_one (w : Nat → BitVec 8) (q : Nat) (x : BitVec 8) (n : Nat) : gf_sm w (fun j => if j = q then x else 0#8) n = if q < n then gf_gm (w q) x else 0#8 := by
  induction n with
  | zero => rfl
  | succ n ih =>
    rw [gf_sm_s, ih]
    by_cases h : n = q
    · rw [if_pos h, if_neg (by omega), if_pos (by omega), BitVec.zero_xor, h]
    · rw [if_neg h, gf_gm_0r, BitVec.xor_zero]
      by_cases h2 : q < n
      · rw [if_pos h2, if_pos (by omega)]
      · rw [if_neg h2, if_neg (by omega)]
/-- the code word of a line with the data d 0 .. d 3 -/
def gf_en (d : Nat → BitVec 8) (p : Nat) : BitVec 8 := if p < 4 then d p else gf_sm (gf_wt (p - 4)) d 4
theorem gf_en_lt {d : Nat → BitVec 8} {p : Nat} (h : p < 4) : gf_en d p = d p := if_pos h
theorem gf_en_ge {d : Nat → BitVec 8} {p : Nat} (h : ¬ p < 4) : gf_en d p = gf_sm (gf_wt (p - 4)) d 4 := if_neg h
theorem gf_en_congr {a b : Nat → BitVec 8} (p : Nat) (h : ∀ k, k < 4 → a k = b k) : gf_en a p = gf_en b p := by
  by_cases hp : p < 4
  · rw [gf_en_lt hp, gf_en_lt hp, h p hp]
  · rw [gf_en_ge hp, gf_en_ge hp, gf_sm_congr 4 h]
theorem gf_en_xor (a b : Nat → BitVec 8) (p : Nat) : gf_en (fun i => a i ^^^ b i) p = gf_en a p ^^^ gf_en b p := by
  by_cases hp : p < 4
  · rw [gf_en_lt hp, gf_en_lt hp, gf_en_lt hp]
  · rw [gf_en_ge hp, gf_en_ge hp, gf_en_ge hp, gf_sm_xor]
theorem gf_en_comm (A : Nat → Nat → BitVec 8) (r c : Nat) : gf_en (fun i => gf_en (fun j => A i j) c) r = gf_en (fun j => gf_en (fun i => A i j) r) c := by
  by_cases hr : r < 4
  · rw [gf_en_lt hr]
    exact gf_en_congr c (fun k _ => (gf_en_lt (d := fun i => A i k) hr).symm)
  · rw [gf_en_ge hr]
    by_cases hc : c < 4
    · rw [gf_en_lt hc, gf_en_ge hr]
      exact gf_sm_congr 4 (fun k _ => gf_en_lt hc)
    · rw [gf_en_ge hc]
      rw [gf_sm_congr (b := fun i => gf_sm (gf_wt (c - 4)) (fun j => A i j) 4) 4 (fun k _ => gf_en_ge hc)]
      rw [gf_sm_congr (b := fun j => gf_sm (gf_wt (r - 4)) (fun i => A i j) 4) 4 (fun k _ => gf_en_ge hr)]
      exact gf_sm_swap _ _ A 4 4
theorem gf_wt_04 : gf_wt 0 4 = 1#8 := rfl
theorem gf_wt_05 : gf_wt 0 5 = 0#8 := rfl
theorem gf_wt_14 : gf_wt 1 4 = 0#8 := rfl
theorem gf_wt_15 : gf_wt 1 5 = 1#8 := rfl
/-- a code word's two sums are 0 -/
theorem gf_en_sm (d : Nat → BitVec 8) (s : Nat) (hs : s < 2) : gf_sm (gf_wt s) (gf_en d) 6 = 0#8 := by
  have e : gf_sm (gf_wt s) (gf_en d) 4 = gf_sm (gf_wt s) d 4 := gf_sm_congr 4 (fun k hk => gf_en_lt hk)
  rw [gf_sm_s, gf_sm_s, e, gf_en_ge (p := 4) (by decide), gf_en_ge (p := 5) (by decide)]
  rcases (show s = 0 ∨ s = 1 by omega) with rfl | rfl
  · rw [gf_wt_04, gf_wt_05, gf_gm_1, gf_gm_0l, BitVec.xor_self, BitVec.xor_zero]
  · rw [gf_wt_14, gf_wt_15, gf_gm_1, gf_gm_0l, BitVec.xor_zero, BitVec.xor_self]
/-- the product code of 16 values -/
def gf_MM (val : Nat → BitVec 8) (r c : Nat) : BitVec 8 := gf_en (fun i => gf_en (fun j => val (4 * i + j)) c) r
def gf_cm (val : Nat → BitVec 8) (k : Nat) : BitVec 8 := gf_MM val (k / 6) (k % 6)
theorem gf_cm_at (val : Nat → BitVec 8) {r c : Nat} (hc : c < 6) : gf_cm val (6 * r + c) = gf_MM val r c := by
  unfold gf_cm
  rw [show (6 * r + c) / 6 = r by omega, show (6 * r + c) % 6 = c by omega]
theorem gf_MM_d (val : Nat → BitVec 8) {r c : Nat} (hr : r < 4) (hc : c < 4) : gf_MM val r c = val (4 * r + c) := by
  unfold gf_MM
  rw [gf_en_lt hr, gf_en_lt hc]
/-- a line of the shelf: a row or a column -/
def gf_Ln (st sd : Nat) : Prop := (∃ r, r < 6 ∧ st = 6 * r ∧ sd = 1) ∨ (st < 6 ∧ sd = 6)
theorem gf_Ln_lt {st sd k : Nat} (h : gf_Ln st sd) (hk : k < 6) : st + sd * k < 36 := by
  rcases h with ⟨r, hr, rfl, rfl⟩ | ⟨hs, rfl⟩ <;> omega
theorem gf_Ln_inj {st sd i j : Nat} (h : gf_Ln st sd) (e : st + sd * i = st + sd * j) : i = j := by
  rcases h with ⟨r, hr, rfl, rfl⟩ | ⟨hs, rfl⟩ <;> omega
theorem gf_Ln_b {st sd : Nat} (h : gf_Ln st sd) : st < 36 ∧ sd < 7 := by
  rcases h with ⟨r, hr, rfl, rfl⟩ | ⟨hs, rfl⟩ <;> omega
theorem gf_Ln_sm (val : Nat → BitVec 8) {st sd : Nat} (h : gf_Ln st sd) (s : Nat) (hs : s < 2) : gf_sm (gf_wt s) (fun k => gf_cm val (st + sd * k)) 6 = 0#8 := by
  rcases h with ⟨r, hr, rfl, rfl⟩ | ⟨h6, rfl⟩
  · refine Eq.trans ?_ (gf_en_sm (fun j => gf_en (fun i => val (4 * i + j)) r) s hs)
    refine gf_sm_congr 6 (fun k hk => ?_)
    show gf_cm val (6 * r + 1 * k) = _
    rw [Nat.one_mul, gf_cm_at val hk]
    exact gf_en_comm (fun i j => val (4 * i + j)) r k
  · refine Eq.trans ?_ (gf_en_sm (fun i => gf_en (fun j => val (4 * i + j)) st) s hs)
    refine gf_sm_congr 6 (fun k hk => ?_)
    show gf_cm val (st + 6 * k) = _
    rw [Nat.add_comm, gf_cm_at val h6]
    rfl
/-- what a change of one value at place q does at place p -/
def gf_cf (p q : Nat) (x : BitVec 8) : BitVec 8 := if p < 4 then (if p = q then x else 0#8) else gf_gm (gf_wt (p - 4) q) x
theorem gf_cf_en {p q : Nat} (x : BitVec 8) (hq : q < 4) : gf_en (fun j => if j = q then x else 0#8) p = gf_cf p q x := by
  unfold gf_cf
  by_cases hp : p < 4
  · rw [gf_en_lt hp, if_pos hp]
  · rw [gf_en_ge hp, if_neg hp, gf_sm_one, if_pos hq]
theorem gf_MM_ch (val : Nat → BitVec 8) {row col : Nat} (hr : row < 4) (hc : col < 4) (b : BitVec 8) (r c : Nat) :
    gf_MM (fun i => if i = 4 * row + col then b else val i) r c = gf_MM val r c ^^^ gf_cf r row (gf_cf c col (val (4 * row + col) ^^^ b)) := by
  unfold gf_MM
  rw [← gf_cf_en _ hr, ← gf_en_xor]
  refine gf_en_congr r (fun i hi => ?_)
  dsimp only
  by_cases h : i = row
  · rw [if_pos h, ← gf_cf_en _ hc, ← gf_en_xor]
    refine gf_en_congr c (fun j hj => ?_)
    by_cases h2 : j = col
    · rw [if_pos h2, if_pos (by omega), h, h2, ← BitVec.xor_assoc, BitVec.xor_self, BitVec.zero_xor]
    · rw [if_neg h2, if_neg (by omega), BitVec.xor_zero]
  · rw [if_neg h, BitVec.xor_zero]
    refine gf_en_congr c (fun j hj => ?_)
    rw [if_neg (by omega)]
/-- one cell's change -/
def gf_mu (m : Nat → BitVec 8) (c : Nat) (d : BitVec 8) (k : Nat) : BitVec 8 := if k = c then m k ^^^ d else m k
theorem gf_mu_eq {m : Nat → BitVec 8} {c k : Nat} {d : BitVec 8} (h : k = c) : gf_mu m c d k = m k ^^^ d := if_pos h
theorem gf_mu_ne {m : Nat → BitVec 8} {c k : Nat} {d : BitVec 8} (h : ¬ k = c) : gf_mu m c d k = m k := if_neg h
theorem gf_cf_lt {p q : Nat} {x : BitVec 8} (h : p < 4) : gf_cf p q x = if p = q then x else 0#8 := if_pos h
theorem gf_cf_4 (q : Nat) (x : BitVec 8) : gf_cf 4 q x = gf_gm (gf_wt 0 q) x := rfl
theorem gf_cf_5 (q : Nat) (x : BitVec 8) : gf_cf 5 q x = gf_gm (gf_wt 1 q) x := rfl
/-- the nine changes of a write make the new code -/
theorem gf_wr (m : Nat → BitVec 8) {row col : Nat} (hr : row < 4) (hc : col < 4) (ch : BitVec 8) (r c : Nat) (hr6 : r < 6) (hc6 : c < 6) :
    gf_mu (gf_mu (gf_mu (gf_mu (gf_mu (gf_mu (gf_mu (gf_mu (gf_mu m
      (6 * row + col) ch)
      (6 * 4 + col) (gf_gm (gf_wt 0 row) ch))
      (6 * 4 + 4) (gf_gm (gf_wt 0 col) (gf_gm (gf_wt 0 row) ch)))
      (6 * 4 + 5) (gf_gm (gf_wt 1 col) (gf_gm (gf_wt 0 row) ch)))
      (6 * 5 + col) (gf_gm (gf_wt 1 row) ch))
      (6 * 5 + 4) (gf_gm (gf_wt 0 col) (gf_gm (gf_wt 1 row) ch)))
      (6 * 5 + 5) (gf_gm (gf_wt 1 col) (gf_gm (gf_wt 1 row) ch)))
      (6 * row + 4) (gf_gm (gf_wt 0 col) ch))
      (6 * row + 5) (gf_gm (gf_wt 1 col) ch) (6 * r + c) = m (6 * r + c) ^^^ gf_cf r row (gf_cf c col ch) := by
  rcases (show r < 4 ∨ r = 4 ∨ r = 5 by omega) with h | rfl | rfl
  · rw [gf_cf_lt h]
    rcases (show c < 4 ∨ c = 4 ∨ c = 5 by omega) with h2 | rfl | rfl
    · rw [gf_cf_lt h2]
      by_cases e : r = row <;> by_cases e2 : c = col <;> simp (disch := omega) only [gf_mu_eq, gf_mu_ne, if_pos, if_neg, BitVec.xor_zero]
    · rw [gf_cf_4]
      by_cases e : r = row <;> simp (disch := omega) only [gf_mu_eq, gf_mu_ne, if_pos, if_neg, BitVec.xor_zero]
    · rw [gf_cf_5]
      by_cases e : r = row <;> simp (disch := omega) only [gf_mu_eq, gf_mu_ne, if_pos, if_neg, BitVec.xor_zero]
  · rw [gf_cf_4]
    rcases (show c < 4 ∨ c = 4 ∨ c = 5 by omega) with h2 | rfl | rfl
    · rw [gf_cf_lt h2]
      by_cases e2 : c = col <;> simp (disch := omega) only [gf_mu_eq, gf_mu_ne, if_pos, if_neg, BitVec.xor_zero, gf_gm_0r]
    · rw [gf_cf_4]
      simp (disch := omega) only [gf_mu_eq, gf_mu_ne, if_pos, if_neg]
      rw [gf_gm_lc]
    · rw [gf_cf_5]
      simp (disch := omega) only [gf_mu_eq, gf_mu_ne, if_pos, if_neg]
      rw [gf_gm_lc]
  · rw [gf_cf_5]
    rcases (show c < 4 ∨ c = 4 ∨ c = 5 by omega) with h2 | rfl | rfl
    · rw [gf_cf_lt h2]
      by_cases e2 : c = col <;> simp (disch := omega) only [gf_mu_eq, gf_mu_ne, if_pos, if_neg, BitVec.xor_zero, gf_gm_0r]
    · rw [gf_cf_4]
      simp (disch := omega) only [gf_mu_eq, gf_mu_ne, if_pos, if_neg]
      rw [gf_gm_lc]
    · rw [gf_cf_5]
      simp (disch := omega) only [gf_mu_eq, gf_mu_ne, if_pos, if_neg]
      rw [gf_gm_lc]
end
section
/-- one lost place: the sum of the rest is its part of the sum -/
theorem gf_one {w l t : Nat → BitVec 8} {n f : Nat} (hf : f < n) (hz : gf_sm w t n = 0#8) (hl : ∀ k, k < n → l k = if k = f then 0#8 else t k) : gf_sm w l n = gf_gm (w f) (t f) := by
  have e : gf_sm w t n = gf_sm w (fun k => l k ^^^ (if k = f then t f else 0#8)) n := by
    refine gf_sm_congr n (fun k hk => ?_)
    rw [hl k hk]
    by_cases h : k = f
    · rw [if_pos h, if_pos h, BitVec.zero_xor, h]
    · rw [if_neg h, if_neg h, BitVec.xor_zero]
  rw [gf_sm_xor, gf_sm_one, if_pos hf, hz] at e
  exact BitVec.xor_eq_zero_iff.mp e.symm
/-- two lost places -/
theorem gf_two {w l t : Nat → BitVec 8} {n f h : Nat} (hf : f < n) (hh : h < n) (hfh : f ≠ h) (hz : gf_sm w t n = 0#8) (hl : ∀ k, k < n → l k = if k = f then 0#8 else if k = h then 0#8 else t k) : gf_sm w l n = gf_gm (w f) (t f) ^^^ gf_gm (w h) (t h) := by
  have e : gf_sm w t n = gf_sm w (fun k => l k ^^^ ((if k = f then t f else 0#8) ^^^ (if k = h then t h else 0#8))) n := by
    refine gf_sm_congr n (fun k hk => ?_)
    rw [hl k hk]
    by_cases e1 : k = f
    · rw [if_pos e1, if_pos e1, if_neg (by omega), BitVec.zero_xor, BitVec.xor_zero, e1]
    · rw [if_neg e1, if_neg e1, BitVec.zero_xor]
      by_cases e2 : k = h
      · rw [if_pos e2, if_pos e2, BitVec.zero_xor, e2]
      · rw [if_neg e2, if_neg e2, BitVec.xor_zero]
  rw [gf_sm_xor, gf_sm_xor, gf_sm_one, gf_sm_one, if_pos hf, if_pos hh, hz] at e
  exact BitVec.xor_eq_zero_iff.mp e.symm
theorem gf_rr (p q r : BitVec 8) : gf_gm (gf_gm p q) r = gf_gm (gf_gm p r) q := by
  rw [gf_gm_assoc, gf_gm_comm q r, ← gf_gm_assoc]
theorem gf_x4 (a b c : BitVec 8) : (a ^^^ b) ^^^ (c ^^^ b) = a ^^^ c := by
  rw [BitVec.xor_assoc, BitVec.xor_comm c b, ← BitVec.xor_assoc b b c, BitVec.xor_self, BitVec.zero_xor]
theorem gf_x5 (a b c : BitVec 8) : (b ^^^ a) ^^^ (b ^^^ c) = a ^^^ c := by
  rw [BitVec.xor_comm b a, BitVec.xor_comm b c, gf_x4]
theorem gf_sol1 (a b c d x y : BitVec 8) : gf_gm (gf_gm a x ^^^ gf_gm b y) d ^^^ gf_gm (gf_gm c x ^^^ gf_gm d y) b = gf_gm (gf_gm a d ^^^ gf_gm b c) x := by
  rw [gf_xor_gm, gf_xor_gm, gf_xor_gm, gf_rr a x d, gf_rr b y d, gf_rr c x b, gf_rr d y b, gf_gm_comm d b, gf_gm_comm c b]
  exact gf_x4 _ _ _
theorem gf_sol2 (a b c d x y : BitVec 8) : gf_gm a (gf_gm c x ^^^ gf_gm d y) ^^^ gf_gm c (gf_gm a x ^^^ gf_gm b y) = gf_gm (gf_gm a d ^^^ gf_gm b c) y := by
  rw [gf_gm_xor, gf_gm_xor, gf_xor_gm, gf_gm_lc a c x, ← gf_gm_assoc a d y, ← gf_gm_assoc c b y, gf_gm_comm c b]
  exact gf_x5 _ _ _
theorem gf_det : ∀ h, h < 6 → ∀ f, f < h → gf_gm (gf_wt 0 f) (gf_wt 1 h) ^^^ gf_gm (gf_wt 0 h) (gf_wt 1 f) ≠ 0#8 := by decide +kernel
theorem gf_w01 : ∀ f, f < 6 → gf_wt 0 f = 0#8 → gf_wt 1 f ≠ 0#8 := by decide +kernel
end
section
/-- the tables hold powers and logarithms -/
def ps_TB (P L : Nat → Int32) : Prop := (∀ i, i < 510 → P i = gf_I (gf_pw i)) ∧ (∀ x : BitVec 8, x ≠ 0#8 → L x.toNat = nI (gf_lg x))
/-- the cells that aren't lost hold m -/
def ps_Rep (g s : Nat → Int32) (m : Nat → BitVec 8) : Prop := ∀ k, k < 36 → g k = 0 → s k = gf_I (m k)
/-- the relation -/
def i_Rel (k : Nat) (u : SX) (v : SY) : Prop := ∃ (f1 f2 f3 : Int32) (s g P L ln av : Nat → Int32) (val : Nat → BitVec 8), u = (f1, f2, f3, s, g, P, L, ln) ∧ v = (av, g) ∧ ps_TB P L ∧ (∀ i, i < 16 → av i = gf_I (val i)) ∧ ps_Rep g s (gf_cm val)
theorem i_up {k : Nat} {u : SX} {v : SY} (h : i_Rel k u v) : i_Rel (k + 4) u v := h
theorem ps_mk {k : Nat} {f1 f2 f3 : Int32} {s g P L ln av : Nat → Int32} {val : Nat → BitVec 8} (hT : ps_TB P L) (hv : ∀ i, i < 16 → av i = gf_I (val i)) (hR : ps_Rep g s (gf_cm val)) : i_Rel k (f1, f2, f3, s, g, P, L, ln) (av, g) := ⟨f1, f2, f3, s, g, P, L, ln, av, val, rfl, rfl, hT, hv, hR⟩
theorem ps_cell (r c : Nat) : 6 * nI r + nI c = nI (6 * r + c) := by
  rw [show (6 : Int32) = nI 6 from rfl, pk_mul, nI_add]
theorem ps_cell4 (r c : Nat) : 4 * nI r + nI c = nI (4 * r + c) := by
  rw [show (4 : Int32) = nI 4 from rfl, pk_mul, nI_add]
/-- an int below n -/
def ps_B (n : Nat) (x : Int32) : Prop := ∃ r, r < n ∧ x = nI r
theorem ps_isData_t {post : Int32 → Prop} {r c : Nat} (hr : r < 4) (hc : c < 4) (h : post 1) : wpX_isData post (nI r) (nI c) :=
  br_f (nI_pos (by omega)) (pk_lt 3 r (fun z => absurd z (by omega)) (fun _ => br_f (nI_pos (by omega)) (pk_lt 3 c (fun z => absurd z (by omega)) (fun _ => h))))
theorem ps_isCell_t {post : Int32 → Prop} {r c : Nat} (hr : r < 6) (hc : c < 6) (h : post 1) : wpX_isCell post (nI r) (nI c) :=
  br_f (nI_pos (by omega)) (pk_lt 5 r (fun z => absurd z (by omega)) (fun _ => br_f (nI_pos (by omega)) (pk_lt 5 c (fun z => absurd z (by omega)) (fun _ => h))))
theorem ps_isData_f {post : Int32 → Prop} {p0 p1 : Int32} (hn : ¬ (ps_B 4 p0 ∧ ps_B 4 p1)) (h : post 0) : wpX_isData post p0 p1 := by
  unfold wpX_isData
  by_cases h0 : p0 < 0
  · exact br_t h0 h
  · refine br_f h0 ?_
    obtain ⟨r, hr, rfl⟩ := nI_of h0
    refine pk_lt 3 r (fun _ => h) (fun hr3 => ?_)
    by_cases h1 : p1 < 0
    · exact br_t h1 h
    · refine br_f h1 ?_
      obtain ⟨c, hc, rfl⟩ := nI_of h1
      exact pk_lt 3 c (fun _ => h) (fun hc3 => absurd ⟨⟨r, by omega, rfl⟩, ⟨c, by omega, rfl⟩⟩ hn)
theorem ps_isCell_f {post : Int32 → Prop} {p0 p1 : Int32} (hn : ¬ (ps_B 6 p0 ∧ ps_B 6 p1)) (h : post 0) : wpX_isCell post p0 p1 := by
  unfold wpX_isCell
  by_cases h0 : p0 < 0
  · exact br_t h0 h
  · refine br_f h0 ?_
    obtain ⟨r, hr, rfl⟩ := nI_of h0
    refine pk_lt 5 r (fun _ => h) (fun hr3 => ?_)
    by_cases h1 : p1 < 0
    · exact br_t h1 h
    · refine br_f h1 ?_
      obtain ⟨c, hc, rfl⟩ := nI_of h1
      exact pk_lt 5 c (fun _ => h) (fun hc3 => absurd ⟨⟨r, by omega, rfl⟩, ⟨c, by omega, rfl⟩⟩ hn)
theorem ps_out_t {post : Int32 → Prop} {r : Nat} {M : Int32} (m : Nat) (hM : M = nI m) (hm : m < 100) (hr : r < m + 1) (h : post 0) : wpY_outside post (nI r) M :=
  br_f (nI_pos (by omega)) (pk_le r m (fun _ => h) (fun z => absurd z (by omega)) rfl hM)
theorem ps_out_f {post : Int32 → Prop} {x M : Int32} (m : Nat) (hM : M = nI m) (hm : m < 100) (hn : ¬ ps_B (m + 1) x) (h : post 1) : wpY_outside post x M := by
  unfold wpY_outside
  by_cases h0 : x < 0
  · exact br_t h0 h
  · refine br_f h0 ?_
    obtain ⟨r, hr, rfl⟩ := nI_of h0
    exact pk_le r m (fun z => absurd ⟨r, by omega, rfl⟩ hn) (fun _ => h) rfl hM
section
variable {f1 f2 f3 : Int32} {s g P L ln : Nat → Int32}
theorem ps_weight {q p : Nat} (hT : ps_TB P L) (hq : q < 2) (hp : p < 6) {post : Int32 → Prop} (h : post (gf_I (gf_wt q p))) : wpX_weight post (f1, f2, f3, s, g, P, L, ln) (nI q) (nI p) := by
  unfold wpX_weight
  dsimp only
  refine pk_eq q 0 (fun e => pk_lt 4 p (fun h4 => ?_) (fun h4 => ?_)) (fun e => pk_lt 3 p (fun h3 => pk_eq p 5 (fun e5 => ?_) (fun e5 => ?_)) (fun h3 => ⟨vp_in_nI (by omega) (by omega), ?_⟩))
  · rw [show gf_wt q p = 0#8 by unfold gf_wt; rw [if_pos e, if_neg (by omega)], gf_I_0] at h
    exact h
  · rw [show gf_wt q p = 1#8 by unfold gf_wt; rw [if_pos e, if_pos (by omega)], gf_I_1] at h
    exact h
  · rw [show gf_wt q p = 1#8 by unfold gf_wt; rw [if_neg e, if_neg (by omega), if_pos e5], gf_I_1] at h
    exact h
  · rw [show gf_wt q p = 0#8 by unfold gf_wt; rw [if_neg e, if_neg (by omega), if_neg e5], gf_I_0] at h
    exact h
  · rw [show gf_wt q p = gf_pw p by unfold gf_wt; rw [if_neg e, if_pos (by omega)]] at h
    rw [nI_clamp (by omega), hT.1 p (by omega)]
    exact h
theorem ps_times {a b : BitVec 8} (hT : ps_TB P L) {post : Int32 → Prop} (h : post (gf_I (gf_gm a b))) : wpX_times post (f1, f2, f3, s, g, P, L, ln) (gf_I a) (gf_I b) := by
  unfold wpX_times
  dsimp only
  by_cases ha : a = 0#8
  · rw [ha, gf_gm_0l, gf_I_0] at h
    exact br_t ((gf_I_eq0 a).mpr ha) h
  · refine br_f (fun z => ha ((gf_I_eq0 a).mp z)) ?_
    by_cases hb : b = 0#8
    · rw [hb, gf_gm_0r, gf_I_0] at h
      exact br_t ((gf_I_eq0 b).mpr hb) h
    · refine br_f (fun z => hb ((gf_I_eq0 b).mp z)) ⟨gf_I_in a, gf_I_in b, ?_⟩
      have la := gf_lg_lt ha
      have lb := gf_lg_lt hb
      rw [gf_I_cl, gf_I_cl, hT.2 a ha, hT.2 b hb, nI_add, nI_clamp (by omega), hT.1 _ (by omega), ← gf_gm_n ha hb]
      exact ⟨vp_in_nI (by omega) (by omega), h⟩
theorem ps_divide {a b : BitVec 8} (hT : ps_TB P L) (hb : b ≠ 0#8) {post : Int32 → Prop} (h : post (gf_I (gf_gd a b))) : wpX_divide post (f1, f2, f3, s, g, P, L, ln) (gf_I a) (gf_I b) := by
  unfold wpX_divide
  dsimp only
  by_cases ha : a = 0#8
  · rw [show gf_gd a b = 0#8 from if_pos ha, gf_I_0] at h
    exact br_t ((gf_I_eq0 a).mpr ha) h
  · refine br_f (fun z => ha ((gf_I_eq0 a).mp z)) ⟨gf_I_in a, gf_I_in b, ?_⟩
    have la := gf_lg_lt ha
    have lb := gf_lg_lt hb
    rw [show gf_gd a b = gf_pw (gf_lg a + 255 - gf_lg b) from if_neg ha] at h
    rw [gf_I_cl, gf_I_cl, hT.2 a ha, hT.2 b hb, show nI (gf_lg a) + 255 - nI (gf_lg b) = nI (gf_lg a + 255 - gf_lg b) by
      rw [show (255 : Int32) = nI 255 from rfl, nI_add, pk_sub (by omega)], nI_clamp (by omega), hT.1 _ (by omega)]
    exact ⟨vp_in_nI (by omega) (by omega), h⟩
theorem ps_Rep_mu {m : Nat → BitVec 8} {c : Nat} {d : BitVec 8} (hR : ps_Rep g s m) (z : c < 36) (hg : g c = 0) : ps_Rep g (upd s c (s c ^^^ gf_I d)) (gf_mu m c d) := by
  intro k hk hk0
  unfold upd gf_mu
  by_cases e : k = c
  · rw [if_pos e, if_pos e, hR c z hg, gf_I_xor, e]
  · rw [if_neg e, if_neg e, hR k hk hk0]
theorem ps_Rep_no {m : Nat → BitVec 8} {c : Nat} {d : BitVec 8} (hR : ps_Rep g s m) (hg : ¬ g c = 0) : ps_Rep g s (gf_mu m c d) := by
  intro k hk hk0
  unfold gf_mu
  rw [if_neg (fun e => hg (by rw [← e]; exact hk0)), hR k hk hk0]
theorem ps_alter {m : Nat → BitVec 8} {r c : Nat} {d : BitVec 8} (hr : r < 6) (hc : c < 6) (hR : ps_Rep g s m) {post : SX → Prop} (h : ∀ s' : Nat → Int32, ps_Rep g s' (gf_mu m (6 * r + c) d) → post (f1, f2, f3, s', g, P, L, ln)) : wpX_alter post (f1, f2, f3, s, g, P, L, ln) (nI r) (nI c) (gf_I d) := by
  unfold wpX_alter
  dsimp only
  rw [ps_cell, nI_clamp (by omega)]
  have hi : vp_in (nI (6 * r + c)) 36 := vp_in_nI (by omega) (by omega)
  exact ⟨hi, br_c (fun z => ⟨hi, hi, nm_e (h _ (ps_Rep_mu hR (by omega) z))⟩) (fun z => h s (ps_Rep_no hR z))⟩
end
end
section
theorem ps_x2 (x : BitVec 8) : gf_I x <<< ((1 : Int32) &&& 31) = nI (x.toNat * 2) := by
  have hx := x.isLt
  exact pk_shlN (n := x.toNat) ((1 : Int32) &&& 31) 1 (by decide) (by omega)
theorem ps_init {post : SX → Prop} {f1 f2 f3 : Int32} {s g ln : Nat → Int32} (h : ∀ P L : Nat → Int32, ps_TB P L → post (f1, f2, f3, s, g, P, L, ln)) :
    ∀ (d k : Nat) (P L : Nat → Int32), k + d = 255 → (∀ i, i < k → P i = gf_I (gf_pw i)) → (∀ i, i < k → P (i + 255) = gf_I (gf_pw i)) → (∀ i, i < k → L (gf_pw i).toNat = nI i) →
      wX_init_50 post f1 f2 f3 (d + 1) (gf_I (gf_pw k)) (nI k) s g P L ln := by
  intro d
  induction d with
  | zero =>
    intro k P L hk h1 h2 h3
    rw [wX_init_50]
    refine br_t (nI_le (a := 255) (by omega) (by omega)) (h P L ⟨fun i hi => ?_, fun x hx => ?_⟩)
    · by_cases h5 : i < 255
      · exact h1 i (by omega)
      · have e := h2 (i - 255) (by omega)
        rw [show i - 255 + 255 = i by omega, ← gf_pw_per, show i - 255 + 255 = i by omega] at e
        exact e
    · have hl := gf_lg_lt hx
      have e := h3 (gf_lg x) (by omega)
      rw [gf_pw_lg hx] at e
      exact e
  | succ d ih =>
    intro k P L hk h1 h2 h3
    rw [wX_init_50]
    dsimp only
    have hx := (gf_pw k).isLt
    have e2 : nI k + 255 = nI (k + 255) := by rw [show (255 : Int32) = nI 255 from rfl, nI_add]
    rw [e2, nI_clamp (by omega), nI_clamp (by omega), gf_I_cl, ps_x2, nI_1]
    have q1 : ∀ i, i < k + 1 → upd (upd P k (gf_I (gf_pw k))) (k + 255) (gf_I (gf_pw k)) i = gf_I (gf_pw i) := by
      intro i hi
      rw [pk_un (by omega)]
      by_cases e : i = k
      · rw [e, pk_us]
      · rw [pk_un e, h1 i (by omega)]
    have q2 : ∀ i, i < k + 1 → upd (upd P k (gf_I (gf_pw k))) (k + 255) (gf_I (gf_pw k)) (i + 255) = gf_I (gf_pw i) := by
      intro i hi
      by_cases e : i = k
      · rw [e, pk_us]
      · rw [pk_un (by omega), pk_un (by omega), h2 i (by omega)]
    have q3 : ∀ i, i < k + 1 → upd L (gf_pw k).toNat (nI k) (gf_pw i).toNat = nI i := by
      intro i hi
      by_cases e : i = k
      · rw [e, pk_us]
      · rw [pk_un, h3 i (by omega)]
        intro z
        have z2 : gf_lg (gf_pw i) = gf_lg (gf_pw k) := congrArg gf_lT z
        rw [gf_lg_pw (by omega), gf_lg_pw (by omega)] at z2
        exact e z2
    have hn := gf_xt_n (gf_pw k)
    have ih2 := ih (k + 1) _ _ (by omega) q1 q2 q3
    rw [gf_pw_s] at ih2
    refine br_f (nI_ge (b := 255) (by omega) (by omega)) ⟨vp_in_nI (by omega) (by omega), nm_e ⟨vp_in_nI (by omega) (by omega), nm_e ⟨gf_I_in _, nm_e (nm_e ?_)⟩⟩⟩
    refine pk_le ((gf_pw k).toNat * 2) 255 (fun z => nm_e ?_) (fun z => nm_r (nx_xor _ 285) (nm_e ?_))
    · rw [if_pos z] at hn
      rw [← hn]
      exact ih2
    · rw [if_neg (by omega)] at hn
      rw [← hn]
      exact ih2
theorem ps_en0 (p : Nat) : gf_en (fun _ => 0#8) p = 0#8 := by
  by_cases h : p < 4
  · rw [gf_en_lt h]
  · rw [gf_en_ge h, gf_sm_0]
theorem ps_cm0 (k : Nat) : gf_cm (fun _ => 0#8) k = 0#8 := by
  unfold gf_cm gf_MM
  rw [gf_en_congr (b := fun _ => 0#8) _ (fun i _ => ps_en0 _), ps_en0]
theorem i_vc0 : wpX_init (fun u => wpY_init (fun v => i_Rel 0 u v)) := by
  unfold wpX_init
  refine ⟨256, ?_⟩
  have h := ps_init (post := fun u => wpY_init (fun v => i_Rel 0 u v)) (f1 := 0) (f2 := 0) (f3 := 0) (s := fun _ => 0) (g := fun _ => 0) (ln := fun _ => 0)
    (fun P L hT => ps_mk (k := 0) (val := fun _ => 0#8) hT (fun i _ => gf_I_0.symm) (fun k _ _ => by rw [ps_cm0, gf_I_0]))
    255 0 (fun _ => 0) (fun _ => 0) (by omega) (fun i hi => absurd hi (by omega)) (fun i hi => absurd hi (by omega)) (fun i hi => absurd hi (by omega))
  rw [show gf_I (gf_pw 0) = 1 from gf_I_1, nI_0] at h
  exact h
end
section
section
variable {f1 f2 f3 : Int32} {s g P L ln : Nat → Int32} {m : Nat → BitVec 8} {row col : Nat} {old : Int32} {ch dn : BitVec 8} {n : Nat} {post : Int32 → SX → Prop}
theorem ps_w159s {c : Nat} (hT : ps_TB P L) (hrow : row < 4) (hcol : col < 4) (h4 : 4 ≤ c) (h6 : c < 6) (hR : ps_Rep g s m)
    (h : ∀ s' : Nat → Int32, ps_Rep g s' (gf_mu m (6 * row + c) (gf_gm (gf_wt (c - 4) col) ch)) → wX_write_159 post (nI row) (nI col) old (gf_I ch) n (nI (c + 1)) f1 f2 f3 s' g P L ln) :
    wX_write_159 post (nI row) (nI col) old (gf_I ch) (n + 1) (nI c) f1 f2 f3 s g P L ln := by
  rw [wX_write_159]
  dsimp only
  refine br_f (nI_ge (b := 6) (by omega) (by omega)) ?_
  rw [show nI c - 4 = nI (c - 4) from pk_sub (b := 4) h4]
  refine ps_weight hT (by omega) (by omega) ?_
  refine ps_times hT ?_
  refine ps_alter (by omega) h6 hR (fun s' hs' => ?_)
  exact nm_r (nI_1 c) (h s' hs')
theorem ps_w159e (h : post old (f1, f2, f3, s, g, P, L, ln)) : wX_write_159 post (nI row) (nI col) old (gf_I ch) (n + 1) (nI 6) f1 f2 f3 s g P L ln := by
  rw [wX_write_159]
  dsimp only
  exact br_t (nI_le (a := 6) (b := 6) (by omega) (by omega)) h
theorem ps_w106s {c r : Nat} {J : Int32 → Int32 → Int32 → Int32 → (Nat → Int32) → (Nat → Int32) → (Nat → Int32) → (Nat → Int32) → (Nat → Int32) → Prop} (hT : ps_TB P L) (hcol : col < 4) (hr : r < 6) (h4 : 4 ≤ c) (h6 : c < 6) (hR : ps_Rep g s m)
    (h : ∀ s' : Nat → Int32, ps_Rep g s' (gf_mu m (6 * r + c) (gf_gm (gf_wt (c - 4) col) dn)) → wX_write_106 post J (nI row) (nI col) old (gf_I ch) (nI r) (gf_I dn) n (nI (c + 1)) f1 f2 f3 s' g P L ln) :
    wX_write_106 post J (nI row) (nI col) old (gf_I ch) (nI r) (gf_I dn) (n + 1) (nI c) f1 f2 f3 s g P L ln := by
  rw [wX_write_106]
  dsimp only
  refine br_f (nI_ge (b := 6) (by omega) (by omega)) ?_
  rw [show nI c - 4 = nI (c - 4) from pk_sub (b := 4) h4]
  refine ps_weight hT (by omega) (by omega) ?_
  refine ps_times hT ?_
  refine ps_alter hr h6 hR (fun s' hs' => ?_)
  exact nm_r (nI_1 c) (h s' hs')
theorem ps_w106e {r : Nat} {J : Int32 → Int32 → Int32 → Int32 → (Nat → Int32) → (Nat → Int32) → (Nat → Int32) → (Nat → Int32) → (Nat → Int32) → Prop} (h : J (nI (r + 1)) f1 f2 f3 s g P L ln) :
    wX_write_106 post J (nI row) (nI col) old (gf_I ch) (nI r) (gf_I dn) (n + 1) (nI 6) f1 f2 f3 s g P L ln := by
  rw [wX_write_106]
  dsimp only
  exact br_t (nI_le (a := 6) (b := 6) (by omega) (by omega)) (nm_r (nI_1 r) h)
theorem ps_w66s {r : Nat} (hT : ps_TB P L) (hrow : row < 4) (hcol : col < 4) (h4 : 4 ≤ r) (h6 : r < 6) (hR : ps_Rep g s m)
    (h : ∀ s' : Nat → Int32, ps_Rep g s' (gf_mu (gf_mu (gf_mu m (6 * r + col) (gf_gm (gf_wt (r - 4) row) ch)) (6 * r + 4) (gf_gm (gf_wt 0 col) (gf_gm (gf_wt (r - 4) row) ch))) (6 * r + 5) (gf_gm (gf_wt 1 col) (gf_gm (gf_wt (r - 4) row) ch))) →
      wX_write_66 post (nI row) (nI col) old (gf_I ch) n (nI (r + 1)) f1 f2 f3 s' g P L ln) :
    wX_write_66 post (nI row) (nI col) old (gf_I ch) (n + 1) (nI r) f1 f2 f3 s g P L ln := by
  rw [wX_write_66]
  dsimp only
  refine br_f (nI_ge (b := 6) (by omega) (by omega)) ?_
  rw [show nI r - 4 = nI (r - 4) from pk_sub (b := 4) h4]
  refine ps_weight hT (by omega) (by omega) ?_
  refine ps_times hT ?_
  refine ps_alter h6 (by omega) hR (fun s1 hs1 => ⟨3, ?_⟩)
  refine ps_w106s (c := 4) (n := 2) hT hcol h6 (by omega) (by omega) hs1 (fun s2 hs2 => ?_)
  refine ps_w106s (c := 5) (n := 1) hT hcol h6 (by omega) (by omega) hs2 (fun s3 hs3 => ?_)
  exact ps_w106e (n := 0) (h s3 hs3)
theorem ps_w66 (hT : ps_TB P L) (hrow : row < 4) (hcol : col < 4) (hR : ps_Rep g s (gf_mu m (6 * row + col) ch))
    (h : ∀ s' : Nat → Int32, ps_Rep g s' (gf_mu (gf_mu (gf_mu (gf_mu (gf_mu (gf_mu (gf_mu (gf_mu (gf_mu m
      (6 * row + col) ch)
      (6 * 4 + col) (gf_gm (gf_wt 0 row) ch))
      (6 * 4 + 4) (gf_gm (gf_wt 0 col) (gf_gm (gf_wt 0 row) ch)))
      (6 * 4 + 5) (gf_gm (gf_wt 1 col) (gf_gm (gf_wt 0 row) ch)))
      (6 * 5 + col) (gf_gm (gf_wt 1 row) ch))
      (6 * 5 + 4) (gf_gm (gf_wt 0 col) (gf_gm (gf_wt 1 row) ch)))
      (6 * 5 + 5) (gf_gm (gf_wt 1 col) (gf_gm (gf_wt 1 row) ch)))
      (6 * row + 4) (gf_gm (gf_wt 0 col) ch))
      (6 * row + 5) (gf_gm (gf_wt 1 col) ch)) → post old (f1, f2, f3, s', g, P, L, ln)) :
    wX_write_66 post (nI row) (nI col) old (gf_I ch) 3 (nI 4) f1 f2 f3 s g P L ln := by
  refine ps_w66s (r := 4) (n := 2) hT hrow hcol (by omega) (by omega) hR (fun s1 hs1 => ?_)
  refine ps_w66s (r := 5) (n := 1) hT hrow hcol (by omega) (by omega) hs1 (fun s2 hs2 => ?_)
  rw [wX_write_66]
  dsimp only
  refine br_t (nI_le (a := 6) (b := 6) (by omega) (by omega)) ⟨3, ?_⟩
  refine ps_w159s (c := 4) (n := 2) hT hrow hcol (by omega) (by omega) hs2 (fun s3 hs3 => ?_)
  refine ps_w159s (c := 5) (n := 1) hT hrow hcol (by omega) (by omega) hs3 (fun s4 hs4 => ?_)
  exact ps_w159e (n := 0) (h s4 hs4)
/-- a write to a cell that isn't lost -/
theorem ps_Xw {val : Nat → BitVec 8} {b : BitVec 8} {p2 : Int32} (hT : ps_TB P L) (hrow : row < 4) (hcol : col < 4) (hb : p2 &&& 255 = gf_I b) (hR : ps_Rep g s (gf_cm val)) (hg : g (6 * row + col) = 0)
    (h : ∀ s' : Nat → Int32, ps_Rep g s' (gf_cm (fun i => if i = 4 * row + col then b else val i)) → post (gf_I (val (4 * row + col))) (f1, f2, f3, s', g, P, L, ln)) :
    wpX_write post (f1, f2, f3, s, g, P, L, ln) (nI row) (nI col) p2 := by
  unfold wpX_write
  refine ps_isData_t hrow hcol ?_
  rw [ps_cell, nI_clamp (by omega), hb]
  have hi : vp_in (nI (6 * row + col)) 36 := vp_in_nI (by omega) (by omega)
  have hs : s (6 * row + col) = gf_I (val (4 * row + col)) := by
    rw [hR _ (by omega) hg, gf_cm_at val (by omega), gf_MM_d val hrow hcol]
  refine br_f (by decide) ⟨hi, br_t hg ⟨hi, nm_r hs (nm_r (gf_I_xor _ _) ⟨hi, nm_e ⟨3, ?_⟩⟩)⟩⟩
  refine ps_w66 (m := gf_cm val) hT hrow hcol (fun k hk hk0 => ?_) (fun s' hs' => h s' (fun k hk hk0 => ?_))
  · unfold gf_mu
    by_cases e : k = 6 * row + col
    · rw [e, pk_us, if_pos rfl, gf_cm_at val (by omega), gf_MM_d val hrow hcol, ← BitVec.xor_assoc, BitVec.xor_self, BitVec.zero_xor]
    · rw [pk_un e, if_neg e, hR k hk hk0]
  · rw [hs' k hk hk0]
    congr 1
    have hk6 : k = 6 * (k / 6) + k % 6 := by omega
    rw [hk6, gf_wr _ hrow hcol _ _ _ (by omega) (by omega), gf_cm_at val (by omega), gf_cm_at _ (by omega), gf_MM_ch val hrow hcol]
theorem ps_Xw_lost {p2 : Int32} (hrow : row < 4) (hcol : col < 4) (hg : ¬ g (6 * row + col) = 0) (h : post (-1) (f1, f2, f3, s, g, P, L, ln)) :
    wpX_write post (f1, f2, f3, s, g, P, L, ln) (nI row) (nI col) p2 := by
  unfold wpX_write
  refine ps_isData_t hrow hcol ?_
  rw [ps_cell, nI_clamp (by omega)]
  exact br_f (by decide) ⟨vp_in_nI (by omega) (by omega), br_f hg h⟩
theorem ps_Xw_out {p0 p1 p2 : Int32} (hn : ¬ (ps_B 4 p0 ∧ ps_B 4 p1)) (h : post (-1) (f1, f2, f3, s, g, P, L, ln)) :
    wpX_write post (f1, f2, f3, s, g, P, L, ln) p0 p1 p2 := by
  unfold wpX_write
  exact ps_isData_f hn (br_t rfl h)
end
section
variable {av g : Nat → Int32} {row col : Nat}
theorem ps_Yw {post : Int32 → SY → Prop} {p2 : Int32} (hrow : row < 4) (hcol : col < 4) (hg : g (6 * row + col) = 0) (h : post (av (4 * row + col)) (upd av (4 * row + col) (p2 &&& 255), g)) :
    wpY_write post (av, g) (nI row) (nI col) p2 := by
  unfold wpY_write
  refine ps_out_t 3 rfl (by omega) hrow (br_t rfl (ps_out_t 3 rfl (by omega) hcol (br_t rfl ?_)))
  rw [ps_cell, ps_cell4, nI_clamp (by omega), nI_clamp (by omega)]
  exact ⟨vp_in_nI (by omega) (by omega), br_t hg ⟨vp_in_nI (by omega) (by omega), nm_e ⟨vp_in_nI (by omega) (by omega), nm_e h⟩⟩⟩
theorem ps_Yw_lost {post : Int32 → SY → Prop} {p2 : Int32} (hrow : row < 4) (hcol : col < 4) (hg : ¬ g (6 * row + col) = 0) (h : post (-1) (av, g)) :
    wpY_write post (av, g) (nI row) (nI col) p2 := by
  unfold wpY_write
  refine ps_out_t 3 rfl (by omega) hrow (br_t rfl (ps_out_t 3 rfl (by omega) hcol (br_t rfl ?_)))
  rw [ps_cell, nI_clamp (by omega)]
  exact ⟨vp_in_nI (by omega) (by omega), br_f hg h⟩
theorem ps_Yw_out {post : Int32 → SY → Prop} {p0 p1 p2 : Int32} (hn : ¬ (ps_B 4 p0 ∧ ps_B 4 p1)) (h : post (-1) (av, g)) :
    wpY_write post (av, g) p0 p1 p2 := by
  unfold wpY_write
  by_cases h0 : ps_B 4 p0
  · obtain ⟨r, hr, rfl⟩ := h0
    exact ps_out_t 3 rfl (by omega) hr (br_t rfl (ps_out_f 3 rfl (by omega) (fun h1 => hn ⟨⟨r, hr, rfl⟩, h1⟩) (br_f (by decide) h)))
  · exact ps_out_f 3 rfl (by omega) h0 (br_f (by decide) h)
end
theorem i_vc_write {k : Nat} {u : SX} {v : SY} (I : i_Rel k u v) (hk : k + 4 ≤ 2048) (v1 : Int32) (v2 : Int32) (v3 : Int32) : wpX_write (fun r u' => wpY_write (fun r' v' => r' = r ∧ i_Rel (k + 4) u' v') v v1 v2 v3) u v1 v2 v3 := by
  obtain ⟨f1, f2, f3, s, g, P, L, ln, av, val, rfl, rfl, hT, hv, hR⟩ := I
  by_cases hB : ps_B 4 v1 ∧ ps_B 4 v2
  · obtain ⟨⟨r, hr, rfl⟩, ⟨c, hc, rfl⟩⟩ := hB
    by_cases hg : g (6 * r + c) = 0
    · obtain ⟨b, hb⟩ := gf_I_and v3
      refine ps_Xw hT hr hc hb hR hg (fun s' hs' => ps_Yw hr hc hg ⟨hv _ (by omega), ps_mk hT (fun i hi => ?_) hs'⟩)
      rw [hb]
      by_cases e : i = 4 * r + c
      · rw [if_pos e, e, pk_us]
      · rw [if_neg e, pk_un e, hv i hi]
    · exact ps_Xw_lost hr hc hg (ps_Yw_lost hr hc hg ⟨rfl, ps_mk hT hv hR⟩)
  · exact ps_Xw_out hB (ps_Yw_out hB ⟨rfl, ps_mk hT hv hR⟩)
end
section
theorem ps_n1 : vp_nar .boolean 1 = 1 := rfl
theorem ps_n0 : vp_nar .boolean 0 = 0 := rfl
theorem i_vc_read {k : Nat} {u : SX} {v : SY} (I : i_Rel k u v) (hk : k + 4 ≤ 2048) (v1 : Int32) (v2 : Int32) : wpX_read (fun r => wpY_read (fun r' => r' = r ∧ i_Rel (k + 4) u v) v v1 v2) u v1 v2 := by
  have I4 := i_up I
  obtain ⟨f1, f2, f3, s, g, P, L, ln, av, val, rfl, rfl, hT, hv, hR⟩ := I
  unfold wpX_read wpY_read
  by_cases hB : ps_B 4 v1 ∧ ps_B 4 v2
  · obtain ⟨⟨r, hr, rfl⟩, ⟨c, hc, rfl⟩⟩ := hB
    refine ps_isData_t hr hc (br_f (by decide) ?_)
    dsimp only
    rw [ps_cell, ps_cell4, nI_clamp (by omega), nI_clamp (by omega)]
    have hi : vp_in (nI (6 * r + c)) 36 := vp_in_nI (by omega) (by omega)
    have hj : vp_in (nI (4 * r + c)) 16 := vp_in_nI (by omega) (by omega)
    refine ⟨hi, br_c (fun z => ⟨hi, ?_⟩) (fun z => ?_)⟩
    · refine ps_out_t 3 rfl (by omega) hr (br_t rfl (ps_out_t 3 rfl (by omega) hc (br_t rfl ⟨hi, br_t z ⟨hj, ?_, I4⟩⟩)))
      rw [hv _ (by omega), hR _ (by omega) z, gf_cm_at val (by omega), gf_MM_d val hr hc]
    · exact ps_out_t 3 rfl (by omega) hr (br_t rfl (ps_out_t 3 rfl (by omega) hc (br_t rfl ⟨hi, br_f z ⟨rfl, I4⟩⟩)))
  · refine ps_isData_f hB (br_t rfl ?_)
    by_cases h0 : ps_B 4 v1
    · obtain ⟨r, hr, rfl⟩ := h0
      exact ps_out_t 3 rfl (by omega) hr (br_t rfl (ps_out_f 3 rfl (by omega) (fun h1 => hB ⟨⟨r, hr, rfl⟩, h1⟩) (br_f (by decide) ⟨rfl, I4⟩)))
    · exact ps_out_f 3 rfl (by omega) h0 (br_f (by decide) ⟨rfl, I4⟩)
theorem i_vc_lost {k : Nat} {u : SX} {v : SY} (I : i_Rel k u v) (hk : k + 4 ≤ 2048) (v1 : Int32) (v2 : Int32) : wpX_lost (fun r => wpY_lost (fun r' => r' = r ∧ i_Rel (k + 4) u v) v v1 v2) u v1 v2 := by
  have I4 := i_up I
  obtain ⟨f1, f2, f3, s, g, P, L, ln, av, val, rfl, rfl, hT, hv, hR⟩ := I
  unfold wpX_lost wpY_lost
  by_cases hB : ps_B 6 v1 ∧ ps_B 6 v2
  · obtain ⟨⟨r, hr, rfl⟩, ⟨c, hc, rfl⟩⟩ := hB
    refine ps_isCell_t hr hc (br_f (by decide) ?_)
    dsimp only
    rw [ps_cell, nI_clamp (by omega)]
    have hi : vp_in (nI (6 * r + c)) 36 := vp_in_nI (by omega) (by omega)
    refine ⟨hi, br_c (fun z => ?_) (fun z => ?_)⟩
    · exact ps_out_t 5 rfl (by omega) hr (br_t rfl (ps_out_t 5 rfl (by omega) hc (br_t rfl ⟨hi, br_t z ⟨rfl, I4⟩⟩)))
    · exact ps_out_t 5 rfl (by omega) hr (br_t rfl (ps_out_t 5 rfl (by omega) hc (br_t rfl ⟨hi, br_f z ⟨rfl, I4⟩⟩)))
  · refine ps_isCell_f hB (br_t rfl ?_)
    by_cases h0 : ps_B 6 v1
    · obtain ⟨r, hr, rfl⟩ := h0
      exact ps_out_t 5 rfl (by omega) hr (br_t rfl (ps_out_f 5 rfl (by omega) (fun h1 => hB ⟨⟨r, hr, rfl⟩, h1⟩) (br_f (by decide) ⟨rfl, I4⟩)))
    · exact ps_out_f 5 rfl (by omega) h0 (br_f (by decide) ⟨rfl, I4⟩)
/-! ===== lose ===== -/
theorem ps_Rep_lose {g s : Nat → Int32} {m : Nat → BitVec 8} (hR : ps_Rep g s m) (c : Nat) : ps_Rep (upd g c 1) (upd s c 0) m := by
  intro k hk hk0
  by_cases e : k = c
  · rw [e, pk_us] at hk0
    exact absurd hk0 (by decide)
  · rw [pk_un e] at hk0
    rw [pk_un e]
    exact hR k hk hk0
def ps_lb (g : Nat → Int32) (c : Nat) : Nat := if g c = 0 then 1 else 0
theorem ps_Xl {f1 f2 f3 : Int32} {s g P L ln : Nat → Int32} {r c : Nat} {post : Int32 → SX → Prop} (hr : r < 6) (hc : c < 6)
    (h : post (nI (ps_lb g (6 * r + c))) (f1, f2, f3, upd s (6 * r + c) 0, upd g (6 * r + c) 1, P, L, ln)) : wpX_lose post (f1, f2, f3, s, g, P, L, ln) (nI r) (nI c) := by
  unfold wpX_lose
  refine ps_isCell_t hr hc (br_f (by decide) (nm_r (ps_cell r c) ?_))
  have hi : vp_in (nI (6 * r + c)) 36 := vp_in_nI (by omega) (by omega)
  rw [nI_clamp (by omega)]
  refine ⟨hi, br_c (fun z => ?_) (fun z => ?_)⟩
  · unfold wX_lose_31
    rw [nI_clamp (by omega), ps_n1]
    rw [ps_lb, if_pos z] at h
    exact ⟨hi, nm_e ⟨hi, nm_e h⟩⟩
  · unfold wX_lose_31
    rw [nI_clamp (by omega), ps_n1]
    rw [ps_lb, if_neg z] at h
    exact ⟨hi, nm_e ⟨hi, nm_e h⟩⟩
theorem ps_Yl {av g : Nat → Int32} {r c : Nat} {post : Int32 → SY → Prop} (hr : r < 6) (hc : c < 6)
    (h : post (nI (ps_lb g (6 * r + c))) (av, upd g (6 * r + c) 1)) : wpY_lose post (av, g) (nI r) (nI c) := by
  unfold wpY_lose
  refine ps_out_t 5 rfl (by omega) hr (br_t rfl (ps_out_t 5 rfl (by omega) hc (br_t rfl ?_)))
  have hi : vp_in (nI (6 * r + c)) 36 := vp_in_nI (by omega) (by omega)
  rw [ps_cell, nI_clamp (by omega)]
  refine ⟨hi, br_c (fun z => ?_) (fun z => ?_)⟩
  · unfold wY_lose_37
    rw [ps_cell, nI_clamp (by omega), ps_n1]
    rw [ps_lb, if_pos z] at h
    exact ⟨hi, nm_e h⟩
  · unfold wY_lose_37
    rw [ps_cell, nI_clamp (by omega), ps_n1]
    rw [ps_lb, if_neg z] at h
    exact ⟨hi, nm_e h⟩
theorem i_vc_lose {k : Nat} {u : SX} {v : SY} (I : i_Rel k u v) (hk : k + 4 ≤ 2048) (v1 : Int32) (v2 : Int32) : wpX_lose (fun r u' => wpY_lose (fun r' v' => r' = r ∧ i_Rel (k + 4) u' v') v v1 v2) u v1 v2 := by
  obtain ⟨f1, f2, f3, s, g, P, L, ln, av, val, rfl, rfl, hT, hv, hR⟩ := I
  by_cases hB : ps_B 6 v1 ∧ ps_B 6 v2
  · obtain ⟨⟨r, hr, rfl⟩, ⟨c, hc, rfl⟩⟩ := hB
    exact ps_Xl hr hc (ps_Yl hr hc ⟨rfl, ps_mk hT hv (ps_Rep_lose hR _)⟩)
  · unfold wpX_lose
    refine ps_isCell_f hB (br_t rfl ?_)
    unfold wpY_lose
    by_cases h0 : ps_B 6 v1
    · obtain ⟨r, hr, rfl⟩ := h0
      exact ps_out_t 5 rfl (by omega) hr (br_t rfl (ps_out_f 5 rfl (by omega) (fun h1 => hB ⟨⟨r, hr, rfl⟩, h1⟩) (br_f (by decide) ⟨rfl, ps_mk hT hv hR⟩)))
    · exact ps_out_f 5 rfl (by omega) h0 (br_f (by decide) ⟨rfl, ps_mk hT hv hR⟩)
theorem ps_lr {f1 f2 f3 : Int32} {P L ln av : Nat → Int32} {m : Nat → BitVec 8} {r : Nat} (hr : r < 6) : ∀ (d j n : Nat) (s g : Nat → Int32), j + d = 6 → ps_Rep g s m →
    ∃ (n' : Nat) (s' g' : Nat → Int32), ps_Rep g' s' m ∧
      (∀ post : Int32 → SX → Prop, post (nI n') (f1, f2, f3, s', g', P, L, ln) → wX_loseRow_14 post (nI r) (d + 1) (nI n) (nI j) f1 f2 f3 s g P L ln) ∧
      (∀ post : Int32 → SY → Prop, post (nI n') (av, g') → wY_loseRow_14 post (nI r) (d + 1) (nI n) (nI j) av g) := by
  intro d
  induction d with
  | zero =>
    intro j n s g hj hR
    refine ⟨n, s, g, hR, fun post h => ?_, fun post h => ?_⟩
    · rw [wX_loseRow_14]
      exact br_t (nI_le (a := 6) (by omega) (by omega)) h
    · rw [wY_loseRow_14]
      exact br_t (nI_le (a := 6) (by omega) (by omega)) h
  | succ d ih =>
    intro j n s g hj hR
    obtain ⟨n', s', g', hR', hX, hY⟩ := ih (j + 1) (n + ps_lb g (6 * r + j)) _ _ (by omega) (ps_Rep_lose hR (6 * r + j))
    refine ⟨n', s', g', hR', fun post h => ?_, fun post h => ?_⟩
    · rw [wX_loseRow_14]
      exact br_f (nI_ge (b := 6) (by omega) (by omega)) (ps_Xl hr (by omega) (nm_r (nI_add _ _) (nm_r (nI_1 j) (hX post h))))
    · rw [wY_loseRow_14]
      exact br_f (nI_ge (b := 6) (by omega) (by omega)) (ps_Yl hr (by omega) (nm_r (nI_add _ _) (nm_r (nI_1 j) (hY post h))))
theorem ps_lc {f1 f2 f3 : Int32} {P L ln av : Nat → Int32} {m : Nat → BitVec 8} {r : Nat} (hr : r < 6) : ∀ (d j n : Nat) (s g : Nat → Int32), j + d = 6 → ps_Rep g s m →
    ∃ (n' : Nat) (s' g' : Nat → Int32), ps_Rep g' s' m ∧
      (∀ post : Int32 → SX → Prop, post (nI n') (f1, f2, f3, s', g', P, L, ln) → wX_loseColumn_14 post (nI r) (d + 1) (nI n) (nI j) f1 f2 f3 s g P L ln) ∧
      (∀ post : Int32 → SY → Prop, post (nI n') (av, g') → wY_loseColumn_14 post (nI r) (d + 1) (nI n) (nI j) av g) := by
  intro d
  induction d with
  | zero =>
    intro j n s g hj hR
    refine ⟨n, s, g, hR, fun post h => ?_, fun post h => ?_⟩
    · rw [wX_loseColumn_14]
      exact br_t (nI_le (a := 6) (by omega) (by omega)) h
    · rw [wY_loseColumn_14]
      exact br_t (nI_le (a := 6) (by omega) (by omega)) h
  | succ d ih =>
    intro j n s g hj hR
    obtain ⟨n', s', g', hR', hX, hY⟩ := ih (j + 1) (n + ps_lb g (6 * j + r)) _ _ (by omega) (ps_Rep_lose hR (6 * j + r))
    refine ⟨n', s', g', hR', fun post h => ?_, fun post h => ?_⟩
    · rw [wX_loseColumn_14]
      exact br_f (nI_ge (b := 6) (by omega) (by omega)) (ps_Xl (by omega) hr (nm_r (nI_add _ _) (nm_r (nI_1 j) (hX post h))))
    · rw [wY_loseColumn_14]
      exact br_f (nI_ge (b := 6) (by omega) (by omega)) (ps_Yl (by omega) hr (nm_r (nI_add _ _) (nm_r (nI_1 j) (hY post h))))
theorem i_vc_loseRow {k : Nat} {u : SX} {v : SY} (I : i_Rel k u v) (hk : k + 4 ≤ 2048) (v1 : Int32) : wpX_loseRow (fun r u' => wpY_loseRow (fun r' v' => r' = r ∧ i_Rel (k + 4) u' v') v v1) u v1 := by
  obtain ⟨f1, f2, f3, s, g, P, L, ln, av, val, rfl, rfl, hT, hv, hR⟩ := I
  unfold wpX_loseRow wpY_loseRow
  by_cases h0 : ps_B 6 v1
  · obtain ⟨r, hr, rfl⟩ := h0
    obtain ⟨n', s', g', hR', hX, hY⟩ := ps_lr (f1 := f1) (f2 := f2) (f3 := f3) (P := P) (L := L) (ln := ln) (av := av) hr 6 0 0 s g (by omega) hR
    exact ps_isCell_t (c := 0) hr (by omega) (br_f (by decide) ⟨7, hX _ (ps_out_t 5 rfl (by omega) hr (br_t rfl ⟨7, hY _ ⟨rfl, ps_mk hT hv hR'⟩⟩))⟩)
  · exact ps_isCell_f (fun h => h0 h.1) (br_t rfl (ps_out_f 5 rfl (by omega) h0 (br_f (by decide) ⟨rfl, ps_mk hT hv hR⟩)))
theorem i_vc_loseColumn {k : Nat} {u : SX} {v : SY} (I : i_Rel k u v) (hk : k + 4 ≤ 2048) (v1 : Int32) : wpX_loseColumn (fun r u' => wpY_loseColumn (fun r' v' => r' = r ∧ i_Rel (k + 4) u' v') v v1) u v1 := by
  obtain ⟨f1, f2, f3, s, g, P, L, ln, av, val, rfl, rfl, hT, hv, hR⟩ := I
  unfold wpX_loseColumn wpY_loseColumn
  by_cases h0 : ps_B 6 v1
  · obtain ⟨r, hr, rfl⟩ := h0
    obtain ⟨n', s', g', hR', hX, hY⟩ := ps_lc (f1 := f1) (f2 := f2) (f3 := f3) (P := P) (L := L) (ln := ln) (av := av) hr 6 0 0 s g (by omega) hR
    exact ps_isCell_t (r := 0) (by omega) hr (br_f (by decide) ⟨7, hX _ (ps_out_t 5 rfl (by omega) hr (br_t rfl ⟨7, hY _ ⟨rfl, ps_mk hT hv hR'⟩⟩))⟩)
  · exact ps_isCell_f (fun h => h0 h.2) (br_t rfl (ps_out_f 5 rfl (by omega) h0 (br_f (by decide) ⟨rfl, ps_mk hT hv hR⟩)))
/-! ===== losses ===== -/
def ps_cn (g : Nat → Int32) : Nat → Nat
  | 0 => 0
  | n + 1 => if g n = 0 then ps_cn g n else ps_cn g n + 1
theorem ps_Xls {f1 f2 f3 : Int32} {s g P L ln : Nat → Int32} {post : Int32 → Prop} (h : post (nI (ps_cn g 36))) : ∀ d j : Nat, j + d = 36 → wX_losses_4 post f1 f2 f3 s g P L ln (d + 1) (nI (ps_cn g j)) (nI j) := by
  intro d
  induction d with
  | zero =>
    intro j hj
    obtain rfl : j = 36 := by omega
    rw [wX_losses_4]
    exact br_t (nI_le (a := 36) (by omega) (by omega)) h
  | succ d ih =>
    intro j hj
    have q := ih (j + 1) (by omega)
    rw [ps_cn] at q
    rw [wX_losses_4]
    dsimp only
    rw [nI_clamp (by omega)]
    refine br_f (nI_ge (b := 36) (by omega) (by omega)) ⟨vp_in_nI (by omega) (by omega), br_c (fun z => ?_) (fun z => ?_)⟩
    · rw [if_pos z] at q
      exact nm_r (Int32.add_zero _) (nm_r (nI_1 j) q)
    · rw [if_neg z] at q
      exact nm_r (nI_1 _) (nm_r (nI_1 j) q)
theorem ps_Yls {av g : Nat → Int32} {post : Int32 → Prop} (h : post (nI (ps_cn g 36))) : ∀ d j : Nat, j + d = 36 → wY_losses_4 post av g (d + 1) (nI (ps_cn g j)) (nI j) := by
  intro d
  induction d with
  | zero =>
    intro j hj
    obtain rfl : j = 36 := by omega
    rw [wY_losses_4]
    exact br_t (nI_le (a := 36) (by omega) (by omega)) h
  | succ d ih =>
    intro j hj
    have q := ih (j + 1) (by omega)
    rw [ps_cn] at q
    rw [wY_losses_4]
    dsimp only
    rw [nI_clamp (by omega)]
    refine br_f (nI_ge (b := 36) (by omega) (by omega)) ⟨vp_in_nI (by omega) (by omega), br_c (fun z => ?_) (fun z => ?_)⟩
    · rw [if_pos z] at q
      exact nm_r (nI_1 j) q
    · rw [if_neg z] at q
      exact nm_r (nI_1 _) (nm_r (nI_1 j) q)
theorem i_vc_losses {k : Nat} {u : SX} {v : SY} (I : i_Rel k u v) (hk : k + 4 ≤ 2048) : wpX_losses (fun r => wpY_losses (fun r' => r' = r ∧ i_Rel (k + 4) u v) v) u := by
  have I4 := i_up I
  obtain ⟨f1, f2, f3, s, g, P, L, ln, av, val, rfl, rfl, hT, hv, hR⟩ := I
  unfold wpX_losses wpY_losses
  exact ⟨37, ps_Xls ⟨37, ps_Yls ⟨rfl, I4⟩ 36 0 (by omega)⟩ 36 0 (by omega)⟩
/-! ===== total ===== -/
def ps_ts (av g : Nat → Int32) : Nat → Int32
  | 0 => 0
  | i + 1 => if g (6 * (i / 4) + i % 4) = 0 then ps_ts av g i + av i else ps_ts av g i
theorem ps_X11 {f1 f2 f3 : Int32} {s g P L ln av : Nat → Int32} {val : Nat → BitVec 8} {post : Int32 → Prop} {J : Int32 → Int32 → Prop} {r : Nat} (hr : r < 4) (hv : ∀ i, i < 16 → av i = gf_I (val i)) (hR : ps_Rep g s (gf_cm val)) (h : J (ps_ts av g (4 * r + 4)) (nI (r + 1))) :
    ∀ d c : Nat, c + d = 4 → wX_total_11 post J (nI r) f1 f2 f3 s g P L ln (d + 1) (ps_ts av g (4 * r + c)) (nI c) := by
  intro d
  induction d with
  | zero =>
    intro c hc
    obtain rfl : c = 4 := by omega
    rw [wX_total_11]
    exact br_t (nI_le (a := 4) (by omega) (by omega)) (nm_r (nI_1 r) h)
  | succ d ih =>
    intro c hc
    have q := ih (c + 1) (by omega)
    rw [show 4 * r + (c + 1) = 4 * r + c + 1 by omega, ps_ts, show (4 * r + c) / 4 = r by omega, show (4 * r + c) % 4 = c by omega] at q
    rw [wX_total_11]
    dsimp only
    rw [ps_cell, nI_clamp (by omega)]
    have hi : vp_in (nI (6 * r + c)) 36 := vp_in_nI (by omega) (by omega)
    refine br_f (nI_ge (b := 4) (by omega) (by omega)) ⟨hi, br_c (fun z => ⟨hi, ?_⟩) (fun z => ?_)⟩
    · rw [if_pos z] at q
      refine nm_r ?_ (nm_r (nI_1 c) q)
      rw [hR _ (by omega) z, gf_cm_at val (by omega), gf_MM_d val hr (by omega), hv _ (by omega)]
    · rw [if_neg z] at q
      exact nm_r (Int32.add_zero _) (nm_r (nI_1 c) q)
theorem ps_X4 {f1 f2 f3 : Int32} {s g P L ln av : Nat → Int32} {val : Nat → BitVec 8} {post : Int32 → Prop} (hv : ∀ i, i < 16 → av i = gf_I (val i)) (hR : ps_Rep g s (gf_cm val)) (h : post (ps_ts av g 16)) :
    ∀ d r : Nat, r + d = 4 → wX_total_4 post f1 f2 f3 s g P L ln (d + 1) (ps_ts av g (4 * r)) (nI r) := by
  intro d
  induction d with
  | zero =>
    intro r hr
    obtain rfl : r = 4 := by omega
    rw [wX_total_4]
    exact br_t (nI_le (a := 4) (by omega) (by omega)) h
  | succ d ih =>
    intro r hr
    have q := ih (r + 1) (by omega)
    rw [show 4 * (r + 1) = 4 * r + 4 by omega] at q
    rw [wX_total_4]
    exact br_f (nI_ge (b := 4) (by omega) (by omega)) ⟨5, ps_X11 (av := av) (by omega) hv hR q 4 0 (by omega)⟩
theorem ps_Y4 {av g : Nat → Int32} {post : Int32 → Prop} (h : post (ps_ts av g 16)) : ∀ d i : Nat, i + d = 16 → wY_total_4 post av g (d + 1) (ps_ts av g i) (nI i) := by
  intro d
  induction d with
  | zero =>
    intro i hi
    obtain rfl : i = 16 := by omega
    rw [wY_total_4]
    exact br_t (nI_le (a := 16) (by omega) (by omega)) h
  | succ d ih =>
    intro i hi
    have q := ih (i + 1) (by omega)
    rw [ps_ts] at q
    rw [wY_total_4]
    dsimp only
    rw [show nI i - nI i / 4 * 4 = nI (i % 4) from pk_rem (d := 4) (by omega) (by omega) (by omega), show nI i / 4 = nI (i / 4) from pk_div (d := 4) (by omega) (by omega) (by omega), ps_cell, nI_clamp (by omega), nI_clamp (by omega)]
    refine br_f (nI_ge (b := 16) (by omega) (by omega)) ⟨by decide, by decide, vp_in_nI (by omega) (by omega), br_c (fun z => ⟨vp_in_nI (by omega) (by omega), ?_⟩) (fun z => ?_)⟩
    · rw [if_pos z] at q
      exact nm_e (nm_r (nI_1 i) q)
    · rw [if_neg z] at q
      exact nm_r (nI_1 i) q
theorem i_vc_total {k : Nat} {u : SX} {v : SY} (I : i_Rel k u v) (hk : k + 4 ≤ 2048) : wpX_total (fun r => wpY_total (fun r' => r' = r ∧ i_Rel (k + 4) u v) v) u := by
  have I4 := i_up I
  obtain ⟨f1, f2, f3, s, g, P, L, ln, av, val, rfl, rfl, hT, hv, hR⟩ := I
  unfold wpX_total wpY_total
  exact ⟨5, ps_X4 (av := av) hv hR ⟨17, ps_Y4 ⟨rfl, I4⟩ 16 0 (by omega)⟩ 4 0 (by omega)⟩
end
section
/-! ===== a line: which places are lost ===== -/
def ps_ct (g : Nat → Int32) (st sd : Nat) : Nat → Nat
  | 0 => 0
  | n + 1 => if g (st + sd * n) = 0 then ps_ct g st sd n else ps_ct g st sd n + 1
theorem ps_ct_z {g : Nat → Int32} {st sd n : Nat} (z : g (st + sd * n) = 0) : ps_ct g st sd (n + 1) = ps_ct g st sd n := if_pos z
theorem ps_ct_n {g : Nat → Int32} {st sd n : Nat} (z : ¬ g (st + sd * n) = 0) : ps_ct g st sd (n + 1) = ps_ct g st sd n + 1 := if_neg z
theorem ps_ct_le (g : Nat → Int32) (st sd n : Nat) : ps_ct g st sd n ≤ n := by
  induction n with
  | zero => exact Nat.le_refl 0
  | succ n ih =>
    by_cases z : g (st + sd * n) = 0
    · rw [ps_ct_z z]; omega
    · rw [ps_ct_n z]; omega
/-- the line as it is read: 0 at a lost place -/
def ps_l (g : Nat → Int32) (m : Nat → BitVec 8) (st sd k : Nat) : BitVec 8 := if g (st + sd * k) = 0 then m (st + sd * k) else 0#8
/-- what the two fields say after j places -/
def ps_FL (g : Nat → Int32) (st sd j : Nat) (f1 f2 : Int32) : Prop :=
  (ps_ct g st sd j = 0 → ∀ k, k < j → g (st + sd * k) = 0) ∧
  (ps_ct g st sd j = 1 → ∃ f, f < j ∧ f1 = nI f ∧ ¬ g (st + sd * f) = 0 ∧ ∀ k, k < j → k ≠ f → g (st + sd * k) = 0) ∧
  (ps_ct g st sd j = 2 → ∃ f h, f < h ∧ h < j ∧ f1 = nI f ∧ f2 = nI h ∧ ¬ g (st + sd * f) = 0 ∧ ¬ g (st + sd * h) = 0 ∧ ∀ k, k < j → k ≠ f → k ≠ h → g (st + sd * k) = 0)
section
variable {g : Nat → Int32} {st sd j : Nat} {f1 f2 : Int32}
theorem ps_FL_0 : ps_FL g st sd 0 f1 f2 := ⟨fun _ k hk => absurd hk (by omega), fun h => absurd (show 0 = 1 from h) (by decide), fun h => absurd (show 0 = 2 from h) (by decide)⟩
theorem ps_FL_z (z : g (st + sd * j) = 0) (h : ps_FL g st sd j f1 f2) : ps_FL g st sd (j + 1) f1 f2 := by
  obtain ⟨a, b, c⟩ := h
  refine ⟨fun e k hk => ?_, fun e => ?_, fun e => ?_⟩
  · rw [ps_ct_z z] at e
    by_cases ek : k = j
    · rw [ek]; exact z
    · exact a e k (by omega)
  · rw [ps_ct_z z] at e
    obtain ⟨f, hf, e1, hn, ha⟩ := b e
    refine ⟨f, by omega, e1, hn, fun k hk hkf => ?_⟩
    by_cases ek : k = j
    · rw [ek]; exact z
    · exact ha k (by omega) hkf
  · rw [ps_ct_z z] at e
    obtain ⟨f, h, hfh, hh, e1, e2, hn, hn2, ha⟩ := c e
    refine ⟨f, h, hfh, by omega, e1, e2, hn, hn2, fun k hk hkf hkh => ?_⟩
    by_cases ek : k = j
    · rw [ek]; exact z
    · exact ha k (by omega) hkf hkh
theorem ps_FL_1 (z : ¬ g (st + sd * j) = 0) (e0 : ps_ct g st sd j = 0) (h : ps_FL g st sd j f1 f2) : ps_FL g st sd (j + 1) (nI j) f2 := by
  obtain ⟨a, b, c⟩ := h
  refine ⟨fun e => ?_, fun e => ⟨j, by omega, rfl, z, fun k hk hkj => a e0 k (by omega)⟩, fun e => ?_⟩
  · rw [ps_ct_n z] at e
    exact absurd e (by clear a b c; omega)
  · rw [ps_ct_n z] at e
    exact absurd e (by clear a b c; omega)
theorem ps_FL_2 (z : ¬ g (st + sd * j) = 0) (e0 : ps_ct g st sd j ≠ 0) (h : ps_FL g st sd j f1 f2) : ps_FL g st sd (j + 1) f1 (nI j) := by
  obtain ⟨a, b, c⟩ := h
  refine ⟨fun e => ?_, fun e => ?_, fun e => ?_⟩
  · rw [ps_ct_n z] at e
    exact absurd e (by clear a b c; omega)
  · rw [ps_ct_n z] at e
    exact absurd e (by clear a b c; omega)
  · rw [ps_ct_n z] at e
    obtain ⟨f, hf, e1, hn, ha⟩ := b (by clear a b c; omega)
    exact ⟨f, j, hf, by omega, e1, rfl, hn, z, fun k hk hkf hkj => ha k (by omega) hkf⟩
end
section
variable {f1 f2 f3 : Int32} {s g P L ln : Nat → Int32} {m : Nat → BitVec 8} {st sd : Nat}
theorem ps_LN {j : Nat} {x : Int32} (hl : ∀ k, k < j → ln k = gf_I (ps_l g m st sd k)) (hx : x = gf_I (ps_l g m st sd j)) : ∀ k, k < j + 1 → upd ln j x k = gf_I (ps_l g m st sd k) := by
  intro k hk
  by_cases e : k = j
  · rw [e, pk_us, hx]
  · rw [pk_un e, hl k (by omega)]
theorem ps_find (hLn : gf_Ln st sd) (hR : ps_Rep g s m) : ∀ (d j : Nat) (f1 f2 : Int32) (ln : Nat → Int32), j + d = 6 → ps_FL g st sd j f1 f2 → (∀ k, k < j → ln k = gf_I (ps_l g m st sd k)) →
    ∃ (f1' f2' : Int32) (ln' : Nat → Int32), ps_FL g st sd 6 f1' f2' ∧ (∀ k, k < 6 → ln' k = gf_I (ps_l g m st sd k)) ∧
      ∀ post : SX → Prop, post (f1', f2', nI (ps_ct g st sd 6), s, g, P, L, ln') → wX_findLost_7 post (nI st) (nI sd) (d + 1) (nI j) f1 f2 (nI (ps_ct g st sd j)) s g P L ln := by
  intro d
  induction d with
  | zero =>
    intro j f1 f2 ln hj hF hl
    obtain rfl : j = 6 := by omega
    refine ⟨f1, f2, ln, hF, hl, fun post h => ?_⟩
    rw [wX_findLost_7]
    exact br_t (nI_le (a := 6) (by omega) (by omega)) h
  | succ d ih =>
    intro j f1 f2 ln hj hF hl
    have hlt := gf_Ln_lt hLn (show j < 6 by omega)
    have hi : vp_in (nI (st + sd * j)) 36 := vp_in_nI hlt (by omega)
    have hc := ps_ct_le g st sd j
    have ecell : nI st + nI sd * nI j = nI (st + sd * j) := by rw [pk_mul, nI_add]
    by_cases z : g (st + sd * j) = 0
    · have hx : s (st + sd * j) = gf_I (ps_l g m st sd j) := by
        unfold ps_l
        rw [if_pos z, hR _ hlt z]
      obtain ⟨f1', f2', ln', q1, q2, q3⟩ := ih (j + 1) f1 f2 _ (by omega) (ps_FL_z z hF) (ps_LN hl hx)
      rw [ps_ct_z z] at q3
      refine ⟨f1', f2', ln', q1, q2, fun post h => ?_⟩
      rw [wX_findLost_7]
      refine br_f (nI_ge (b := 6) (by omega) (by omega)) (nm_r ecell ?_)
      rw [nI_clamp (by omega)]
      refine ⟨hi, br_t z ⟨hi, ?_⟩⟩
      unfold wX_findLost_46
      rw [nI_clamp (by omega), nI_clamp (by omega)]
      exact ⟨vp_in_nI (by omega) (by omega), nm_e ⟨hi, br_t z (nm_r (nI_1 j) (q3 post h))⟩⟩
    · have hx : (0 : Int32) = gf_I (ps_l g m st sd j) := by
        unfold ps_l
        rw [if_neg z, gf_I_0]
      by_cases e0 : ps_ct g st sd j = 0
      · obtain ⟨f1', f2', ln', q1, q2, q3⟩ := ih (j + 1) (nI j) f2 _ (by omega) (ps_FL_1 z e0 hF) (ps_LN hl hx)
        rw [ps_ct_n z] at q3
        refine ⟨f1', f2', ln', q1, q2, fun post h => ?_⟩
        rw [wX_findLost_7]
        refine br_f (nI_ge (b := 6) (by omega) (by omega)) (nm_r ecell ?_)
        rw [nI_clamp (by omega)]
        refine ⟨hi, br_f z ?_⟩
        unfold wX_findLost_46
        rw [nI_clamp (by omega), nI_clamp (by omega)]
        refine ⟨vp_in_nI (by omega) (by omega), nm_e ⟨hi, br_f z (br_t (by rw [e0]; rfl) ?_)⟩⟩
        unfold wX_findLost_77
        exact nm_r (nI_1 _) (nm_r (nI_1 j) (q3 post h))
      · obtain ⟨f1', f2', ln', q1, q2, q3⟩ := ih (j + 1) f1 (nI j) _ (by omega) (ps_FL_2 z e0 hF) (ps_LN hl hx)
        rw [ps_ct_n z] at q3
        refine ⟨f1', f2', ln', q1, q2, fun post h => ?_⟩
        rw [wX_findLost_7]
        refine br_f (nI_ge (b := 6) (by omega) (by omega)) (nm_r ecell ?_)
        rw [nI_clamp (by omega)]
        refine ⟨hi, br_f z ?_⟩
        unfold wX_findLost_46
        rw [nI_clamp (by omega), nI_clamp (by omega)]
        refine ⟨vp_in_nI (by omega) (by omega), nm_e ⟨hi, br_f z (br_f (nI_ne0 (by omega) (by omega)) ?_)⟩⟩
        unfold wX_findLost_77
        exact nm_r (nI_1 _) (nm_r (nI_1 j) (q3 post h))
theorem ps_findW (hLn : gf_Ln st sd) (hR : ps_Rep g s m) :
    ∃ (f1' f2' : Int32) (ln' : Nat → Int32), ps_FL g st sd 6 f1' f2' ∧ (∀ k, k < 6 → ln' k = gf_I (ps_l g m st sd k)) ∧
      ∀ post : SX → Prop, post (f1', f2', nI (ps_ct g st sd 6), s, g, P, L, ln') → wpX_findLost post (f1, f2, f3, s, g, P, L, ln) (nI st) (nI sd) := by
  obtain ⟨f1', f2', ln', q1, q2, q3⟩ := ps_find (P := P) (L := L) hLn hR 6 0 f1 f2 ln (by omega) ps_FL_0 (fun k hk => absurd hk (by omega))
  exact ⟨f1', f2', ln', q1, q2, fun post h => ⟨7, q3 post h⟩⟩
theorem ps_sumOf {l : Nat → BitVec 8} {q : Nat} {post : Int32 → Prop} (hT : ps_TB P L) (hq : q < 2) (hl : ∀ k, k < 6 → ln k = gf_I (l k)) (h : post (gf_I (gf_sm (gf_wt q) l 6))) :
    ∀ d j : Nat, j + d = 6 → wX_sumOf_4 post (nI q) f1 f2 f3 s g P L ln (d + 1) (gf_I (gf_sm (gf_wt q) l j)) (nI j) := by
  intro d
  induction d with
  | zero =>
    intro j hj
    obtain rfl : j = 6 := by omega
    rw [wX_sumOf_4]
    exact br_t (nI_le (a := 6) (by omega) (by omega)) h
  | succ d ih =>
    intro j hj
    have q1 := ih (j + 1) (by omega)
    rw [wX_sumOf_4]
    refine br_f (nI_ge (b := 6) (by omega) (by omega)) (ps_weight hT hq (by omega) ⟨vp_in_nI (by omega) (by omega), ?_⟩)
    rw [nI_clamp (by omega), hl j (by omega)]
    exact ps_times hT (nm_r (gf_I_xor _ _) (nm_r (nI_1 j) q1))
theorem ps_sumW {l : Nat → BitVec 8} {q : Nat} {post : Int32 → Prop} (hT : ps_TB P L) (hq : q < 2) (hl : ∀ k, k < 6 → ln k = gf_I (l k)) (h : post (gf_I (gf_sm (gf_wt q) l 6))) :
    wpX_sumOf post (f1, f2, f3, s, g, P, L, ln) (nI q) := by
  have e := ps_sumOf (f1 := f1) (f2 := f2) (f3 := f3) (s := s) (g := g) hT hq hl h 6 0 (by omega)
  rw [show gf_I (gf_sm (gf_wt q) l 0) = 0 from gf_I_0, nI_0] at e
  exact ⟨7, e⟩
theorem ps_mendOne {f : Nat} {x : BitVec 8} {post : SX → Prop} (hT : ps_TB P L) (hf : f < 6) (hp : post (nI f, f2, f3, s, g, P, L, upd ln f (gf_I x))) :
    wpX_mendOne post (nI f, f2, f3, s, g, P, L, ln) (gf_I (gf_gm (gf_wt 0 f) x)) (gf_I (gf_gm (gf_wt 1 f) x)) := by
  unfold wpX_mendOne
  refine ps_weight (q := 0) hT (by omega) hf ?_
  by_cases h0 : gf_wt 0 f = 0#8
  · have h1 := gf_w01 f hf h0
    refine br_t ((gf_I_eq0 _).mpr h0) (ps_weight (q := 1) hT (by omega) hf (ps_divide hT h1 ?_))
    rw [gf_gd_gm h1, nI_clamp (by omega)]
    exact ⟨vp_in_nI (by omega) (by omega), nm_e hp⟩
  · refine br_f (fun z => h0 ((gf_I_eq0 _).mp z)) (ps_divide hT h0 ?_)
    rw [gf_gd_gm h0, nI_clamp (by omega)]
    exact ⟨vp_in_nI (by omega) (by omega), nm_e hp⟩
theorem ps_mendTwo {f h : Nat} {x y : BitVec 8} {post : SX → Prop} (hT : ps_TB P L) (hfh : f < h) (hh : h < 6) (hp : post (nI f, nI h, f3, s, g, P, L, upd (upd ln f (gf_I x)) h (gf_I y))) :
    wpX_mendTwo post (nI f, nI h, f3, s, g, P, L, ln) (gf_I (gf_gm (gf_wt 0 f) x ^^^ gf_gm (gf_wt 0 h) y)) (gf_I (gf_gm (gf_wt 1 f) x ^^^ gf_gm (gf_wt 1 h) y)) := by
  have hD := gf_det h hh f hfh
  unfold wpX_mendTwo
  refine ps_weight (q := 0) hT (by omega) (by omega) ?_
  refine ps_weight (q := 0) hT (by omega) (by omega) ?_
  refine ps_weight (q := 1) hT (by omega) (by omega) ?_
  refine ps_weight (q := 1) hT (by omega) (by omega) ?_
  refine ps_times hT (ps_times hT (nm_r (gf_I_xor _ _) ?_))
  refine ps_times hT (ps_times hT (nm_r (gf_I_xor _ _) ?_))
  refine ps_times hT (ps_times hT (nm_r (gf_I_xor _ _) ?_))
  rw [gf_sol1, gf_sol2]
  refine ps_divide hT hD ?_
  rw [gf_gd_gm hD, nI_clamp (by omega), nI_clamp (by omega)]
  refine ⟨vp_in_nI (by omega) (by omega), nm_e ?_⟩
  refine ps_divide hT hD ?_
  rw [gf_gd_gm hD]
  exact ⟨vp_in_nI (by omega) (by omega), nm_e hp⟩
theorem ps_keep {p : Nat} {post : SX → Prop} (hLn : gf_Ln st sd) (hp : p < 6) (h : post (f1, f2, f3, upd s (st + sd * p) (ln p), upd g (st + sd * p) 0, P, L, ln)) :
    wpX_keep post (f1, f2, f3, s, g, P, L, ln) (nI st) (nI sd) (nI p) := by
  have hlt := gf_Ln_lt hLn hp
  have hi : vp_in (nI (st + sd * p)) 36 := vp_in_nI hlt (by omega)
  unfold wpX_keep
  refine nm_r (e' := nI (st + sd * p)) (by rw [pk_mul, nI_add]) ?_
  rw [nI_clamp (by omega), nI_clamp (by omega), ps_n0]
  exact ⟨vp_in_nI hp (by omega), hi, nm_e ⟨hi, nm_e h⟩⟩
theorem ps_Rep_keep (hR : ps_Rep g s m) (c : Nat) : ps_Rep (upd g c 0) (upd s c (gf_I (m c))) m := by
  intro k hk hk0
  by_cases e : k = c
  · rw [e, pk_us]
  · rw [pk_un e] at hk0
    rw [pk_un e, hR k hk hk0]
end
end
section
/-! ===== the reference's line ===== -/
def ps_cl (g : Nat → Int32) (st sd : Nat) : Nat → Nat → Int32
  | 0 => g
  | n + 1 => upd (ps_cl g st sd n) (st + sd * n) 0
theorem ps_cl_s (g : Nat → Int32) (st sd n : Nat) : ps_cl g st sd (n + 1) = upd (ps_cl g st sd n) (st + sd * n) 0 := rfl
theorem ps_cl_in {g : Nat → Int32} {st sd i : Nat} : ∀ n : Nat, i < n → ps_cl g st sd n (st + sd * i) = 0 := by
  intro n
  induction n with
  | zero => intro h; exact absurd h (by omega)
  | succ n ih =>
    intro h
    rw [ps_cl_s]
    by_cases e : i = n
    · rw [e, pk_us]
    · by_cases e2 : st + sd * i = st + sd * n
      · rw [e2, pk_us]
      · rw [pk_un e2, ih (by omega)]
theorem ps_cl_out {g : Nat → Int32} {st sd k : Nat} : ∀ n : Nat, (∀ i, i < n → k ≠ st + sd * i) → ps_cl g st sd n k = g k := by
  intro n
  induction n with
  | zero => intro _; rfl
  | succ n ih =>
    intro h
    rw [ps_cl_s, pk_un (h n (by omega)), ih (fun i hi => h i (by omega))]
theorem ps_cl_eq {g G : Nat → Int32} {st sd : Nat} (h1 : ∀ i, i < 6 → G (st + sd * i) = 0) (h2 : ∀ k, (∀ i, i < 6 → k ≠ st + sd * i) → G k = g k) : G = ps_cl g st sd 6 := by
  funext k
  by_cases h : ∃ i, i < 6 ∧ k = st + sd * i
  · obtain ⟨i, hi, rfl⟩ := h
    rw [h1 i hi, ps_cl_in 6 hi]
  · have h3 : ∀ i, i < 6 → k ≠ st + sd * i := fun i hi e => h ⟨i, hi, e⟩
    rw [h2 k h3, ps_cl_out 6 h3]
section
variable {av g : Nat → Int32} {st sd : Nat} {post : Int32 → SY → Prop}
theorem ps_Y45 {x : Int32} (hLn : gf_Ln st sd) (h : post x (av, ps_cl g st sd 6)) : ∀ d j : Nat, j + d = 6 → wY_mendLine_45 post (nI st) (nI sd) x (d + 1) (nI j) av (ps_cl g st sd j) := by
  intro d
  induction d with
  | zero =>
    intro j hj
    obtain rfl : j = 6 := by omega
    rw [wY_mendLine_45]
    exact br_t (nI_le (a := 6) (by omega) (by omega)) h
  | succ d ih =>
    intro j hj
    have hlt := gf_Ln_lt hLn (show j < 6 by omega)
    rw [wY_mendLine_45]
    dsimp only
    rw [show nI st + nI j * nI sd = nI (st + sd * j) by rw [pk_mul, nI_add, Nat.mul_comm], nI_clamp (by omega), ps_n0]
    exact br_f (nI_ge (b := 6) (by omega) (by omega)) ⟨vp_in_nI hlt (by omega), nm_e (nm_r (nI_1 j) (ih (j + 1) (by omega)))⟩
theorem ps_Y5 (hLn : gf_Ln st sd) (h1 : ps_ct g st sd 6 ≤ 2 → post (nI (ps_ct g st sd 6)) (av, ps_cl g st sd 6)) (h2 : 2 < ps_ct g st sd 6 → post 0 (av, g)) :
    ∀ d j : Nat, j + d = 6 → wY_mendLine_5 post (nI st) (nI sd) av g (d + 1) (nI (ps_ct g st sd j)) (nI j) := by
  intro d
  induction d with
  | zero =>
    intro j hj
    obtain rfl : j = 6 := by omega
    have hc := ps_ct_le g st sd 6
    rw [wY_mendLine_5]
    exact br_t (nI_le (a := 6) (by omega) (by omega)) (pk_le (ps_ct g st sd 6) 2 (fun z => ⟨7, ps_Y45 hLn (h1 z) 6 0 (by omega)⟩) (fun z => h2 z))
  | succ d ih =>
    intro j hj
    have hlt := gf_Ln_lt hLn (show j < 6 by omega)
    have q := ih (j + 1) (by omega)
    rw [wY_mendLine_5]
    dsimp only
    rw [show nI st + nI j * nI sd = nI (st + sd * j) by rw [pk_mul, nI_add, Nat.mul_comm], nI_clamp (by omega)]
    refine br_f (nI_ge (b := 6) (by omega) (by omega)) ⟨vp_in_nI hlt (by omega), br_c (fun z => ?_) (fun z => ?_)⟩
    · rw [ps_ct_z z] at q
      exact nm_r (nI_1 j) q
    · rw [ps_ct_n z] at q
      exact nm_r (nI_1 _) (nm_r (nI_1 j) q)
theorem ps_Yml (hLn : gf_Ln st sd) (h1 : ps_ct g st sd 6 ≤ 2 → post (nI (ps_ct g st sd 6)) (av, ps_cl g st sd 6)) (h2 : 2 < ps_ct g st sd 6 → post 0 (av, g)) :
    wpY_mendLine post (av, g) (nI st) (nI sd) := ⟨7, ps_Y5 hLn h1 h2 6 0 (by omega)⟩
end
/-! ===== the component's line ===== -/
section
variable {f1 f2 f3 : Int32} {s g P L ln : Nat → Int32} {m : Nat → BitVec 8} {st sd : Nat} {post : Int32 → SX → Prop}
theorem ps_X62_1 {f : Nat} {x : BitVec 8} (hLn : gf_Ln st sd) (hf : f < 6) (h : post (nI 1) (nI f, f2, nI 1, upd s (st + sd * f) (gf_I x), upd g (st + sd * f) 0, P, L, upd ln f (gf_I x))) :
    wX_mendLine_62 post (nI st) (nI sd) (nI f) f2 (nI 1) s g P L (upd ln f (gf_I x)) := by
  unfold wX_mendLine_62
  refine ps_keep hLn hf ?_
  rw [pk_us]
  exact br_f (by decide) h
theorem ps_X62_2 {f k : Nat} {x y : BitVec 8} (hLn : gf_Ln st sd) (hf : f < k) (hk : k < 6) (h : post (nI 2) (nI f, nI k, nI 2, upd (upd s (st + sd * f) (gf_I x)) (st + sd * k) (gf_I y), upd (upd g (st + sd * f) 0) (st + sd * k) 0, P, L, upd (upd ln f (gf_I x)) k (gf_I y))) :
    wX_mendLine_62 post (nI st) (nI sd) (nI f) (nI k) (nI 2) s g P L (upd (upd ln f (gf_I x)) k (gf_I y)) := by
  unfold wX_mendLine_62
  refine ps_keep hLn (by omega) ?_
  rw [pk_un (show f ≠ k by omega), pk_us]
  refine br_t rfl (ps_keep hLn hk ?_)
  rw [pk_us]
  exact h
theorem ps_Xml_1 {f : Nat} {l : Nat → BitVec 8} {x : BitVec 8} (hT : ps_TB P L) (hLn : gf_Ln st sd) (hf : f < 6) (hl : ∀ k, k < 6 → ln k = gf_I (l k))
    (e0 : gf_sm (gf_wt 0) l 6 = gf_gm (gf_wt 0 f) x) (e1 : gf_sm (gf_wt 1) l 6 = gf_gm (gf_wt 1 f) x)
    {u : SX} (hW : ∀ post : SX → Prop, post (nI f, f2, nI 1, s, g, P, L, ln) → wpX_findLost post u (nI st) (nI sd))
    (h : post (nI 1) (nI f, f2, nI 1, upd s (st + sd * f) (gf_I x), upd g (st + sd * f) 0, P, L, upd ln f (gf_I x))) :
    wpX_mendLine post u (nI st) (nI sd) := by
  obtain ⟨b1, b2, b3, b4, b5, b6, b7, b8⟩ := u
  unfold wpX_mendLine
  refine hW _ (br_f (by decide) (br_t (by decide) ?_))
  refine ps_sumW (q := 0) hT (by omega) hl (ps_sumW (q := 1) hT (by omega) hl ?_)
  rw [e0, e1]
  exact br_t rfl (ps_mendOne hT hf (ps_X62_1 hLn hf h))
theorem ps_Xml_2 {f k : Nat} {l : Nat → BitVec 8} {x y : BitVec 8} (hT : ps_TB P L) (hLn : gf_Ln st sd) (hf : f < k) (hk : k < 6) (hl : ∀ i, i < 6 → ln i = gf_I (l i))
    (e0 : gf_sm (gf_wt 0) l 6 = gf_gm (gf_wt 0 f) x ^^^ gf_gm (gf_wt 0 k) y) (e1 : gf_sm (gf_wt 1) l 6 = gf_gm (gf_wt 1 f) x ^^^ gf_gm (gf_wt 1 k) y)
    {u : SX} (hW : ∀ post : SX → Prop, post (nI f, nI k, nI 2, s, g, P, L, ln) → wpX_findLost post u (nI st) (nI sd))
    (h : post (nI 2) (nI f, nI k, nI 2, upd (upd s (st + sd * f) (gf_I x)) (st + sd * k) (gf_I y), upd (upd g (st + sd * f) 0) (st + sd * k) 0, P, L, upd (upd ln f (gf_I x)) k (gf_I y))) :
    wpX_mendLine post u (nI st) (nI sd) := by
  obtain ⟨b1, b2, b3, b4, b5, b6, b7, b8⟩ := u
  unfold wpX_mendLine
  refine hW _ (br_f (by decide) (br_t (by decide) ?_))
  refine ps_sumW (q := 0) hT (by omega) hl (ps_sumW (q := 1) hT (by omega) hl ?_)
  rw [e0, e1]
  exact br_f (by decide) (ps_mendTwo hT hf hk (ps_X62_2 hLn hf hk h))
theorem ps_Xml_0 {c : Nat} (hc : c ≤ 6) (h0 : c = 0 ∨ 2 < c) {u : SX} (hW : ∀ post : SX → Prop, post (f1, f2, nI c, s, g, P, L, ln) → wpX_findLost post u (nI st) (nI sd))
    (h : post 0 (f1, f2, nI c, s, g, P, L, ln)) : wpX_mendLine post u (nI st) (nI sd) := by
  obtain ⟨b1, b2, b3, b4, b5, b6, b7, b8⟩ := u
  unfold wpX_mendLine
  exact hW _ (pk_lt c 1 (fun _ => h) (fun z => pk_le c 2 (fun z2 => absurd z2 (by omega)) (fun _ => h)))
end
/-- one outcome of a line for both sides -/
theorem ps_ml {f1 f2 f3 : Int32} {s g P L ln av : Nat → Int32} {val : Nat → BitVec 8} {st sd : Nat} (hT : ps_TB P L) (hLn : gf_Ln st sd) (hR : ps_Rep g s (gf_cm val)) :
    ∃ (c : Nat) (f1' f2' f3' : Int32) (s' g' ln' : Nat → Int32), c ≤ 2 ∧ ps_Rep g' s' (gf_cm val) ∧
      (∀ post : Int32 → SX → Prop, post (nI c) (f1', f2', f3', s', g', P, L, ln') → wpX_mendLine post (f1, f2, f3, s, g, P, L, ln) (nI st) (nI sd)) ∧
      (∀ post : Int32 → SY → Prop, post (nI c) (av, g') → wpY_mendLine post (av, g) (nI st) (nI sd)) := by
  obtain ⟨a1, a2, l1, hF, hl, hW⟩ := ps_findW (f1 := f1) (f2 := f2) (f3 := f3) (P := P) (L := L) (ln := ln) hLn hR
  obtain ⟨F0', F1', F2'⟩ := hF
  have hc := ps_ct_le g st sd 6
  have hz := fun q hq => gf_Ln_sm val hLn q hq
  rcases (show ps_ct g st sd 6 = 0 ∨ ps_ct g st sd 6 = 1 ∨ ps_ct g st sd 6 = 2 ∨ 2 < ps_ct g st sd 6 by clear F0' F1' F2' hW hz; omega) with e | e | e | e
  · have hall := F0' e
    have hg : g = ps_cl g st sd 6 := ps_cl_eq hall (fun k _ => rfl)
    refine ⟨0, a1, a2, _, s, g, l1, by omega, hR, fun post h => ps_Xml_0 hc (Or.inl e) hW h, fun post h => ps_Yml hLn (fun _ => ?_) (fun z => absurd z (by clear F0' F1' F2' hW hz; omega))⟩
    rw [e, ← hg]
    exact h
  · obtain ⟨f, hf, rfl, hn, hall⟩ := F1' e
    have hl2 : ∀ k, k < 6 → ps_l g (gf_cm val) st sd k = if k = f then 0#8 else (fun k => gf_cm val (st + sd * k)) k := by
      intro k hk
      unfold ps_l
      by_cases ek : k = f
      · rw [if_pos ek, ek, if_neg hn]
      · rw [if_neg ek, if_pos (hall k hk ek)]
    have hg : upd g (st + sd * f) 0 = ps_cl g st sd 6 := by
      refine ps_cl_eq (fun i hi => ?_) (fun k hk => pk_un (hk f hf))
      by_cases ei : i = f
      · rw [ei, pk_us]
      · rw [pk_un (fun z => ei (gf_Ln_inj hLn z)), hall i hi ei]
    rw [e] at hW
    refine ⟨1, nI f, a2, nI 1, _, upd g (st + sd * f) 0, _, by omega, ps_Rep_keep hR (st + sd * f), fun post h => ps_Xml_1 hT hLn hf hl (gf_one hf (hz 0 (by omega)) hl2) (gf_one hf (hz 1 (by omega)) hl2) hW h, fun post h => ps_Yml hLn (fun _ => ?_) (fun z => absurd z (by clear F0' F1' F2' hW hz; omega))⟩
    rw [e, ← hg]
    exact h
  · obtain ⟨f, k, hfk, hk, rfl, rfl, hn, hn2, hall⟩ := F2' e
    have hl2 : ∀ i, i < 6 → ps_l g (gf_cm val) st sd i = if i = f then 0#8 else if i = k then 0#8 else (fun k => gf_cm val (st + sd * k)) i := by
      intro i hi
      unfold ps_l
      by_cases ei : i = f
      · rw [if_pos ei, ei, if_neg hn]
      · rw [if_neg ei]
        by_cases ei2 : i = k
        · rw [if_pos ei2, ei2, if_neg hn2]
        · rw [if_neg ei2, if_pos (hall i hi ei ei2)]
    have hf : f < 6 := Nat.lt_trans hfk hk
    have hne : f ≠ k := Nat.ne_of_lt hfk
    have hg : upd (upd g (st + sd * f) 0) (st + sd * k) 0 = ps_cl g st sd 6 := by
      refine ps_cl_eq (fun i hi => ?_) (fun j hj => ?_)
      · by_cases ei : i = k
        · rw [ei, pk_us]
        · rw [pk_un (fun z => ei (gf_Ln_inj hLn z))]
          by_cases ei2 : i = f
          · rw [ei2, pk_us]
          · rw [pk_un (fun z => ei2 (gf_Ln_inj hLn z)), hall i hi ei2 ei]
      · rw [pk_un (hj k hk), pk_un (hj f hf)]
    rw [e] at hW
    refine ⟨2, nI f, nI k, nI 2, _, upd (upd g (st + sd * f) 0) (st + sd * k) 0, _, by omega, ps_Rep_keep (ps_Rep_keep hR (st + sd * f)) (st + sd * k), fun post h => ps_Xml_2 hT hLn hfk hk hl (gf_two hf hk hne (hz 0 (by omega)) hl2) (gf_two hf hk hne (hz 1 (by omega)) hl2) hW h, fun post h => ps_Yml hLn (fun _ => ?_) (fun z => absurd z (by clear F0' F1' F2' hW hz; omega))⟩
    rw [e, ← hg]
    exact h
  · exact ⟨0, a1, a2, _, s, g, l1, by omega, hR, fun post h => ps_Xml_0 hc (Or.inr e) hW h, fun post h => ps_Yml hLn (fun z => absurd z (by clear F0' F1' F2' hW hz; omega)) (fun _ => h)⟩
end
section
theorem ps_6 (k : Nat) : 6 * nI k = nI (6 * k) := pk_mul 6 k
theorem ps_row {k : Nat} (h : k < 6) : gf_Ln (6 * k) 1 := Or.inl ⟨k, h, rfl, rfl⟩
theorem ps_col {k : Nat} (h : k < 6) : gf_Ln k 6 := Or.inr ⟨h, rfl⟩
theorem ps_Ymr {av g g' : Nat → Int32} {k c : Nat} (hk : k < 6) (hY : ∀ post : Int32 → SY → Prop, post (nI c) (av, g') → wpY_mendLine post (av, g) (nI (6 * k)) (nI 1)) (post : Int32 → SY → Prop) (h : post (nI c) (av, g')) : wpY_mendRow post (av, g) (nI k) := by
  unfold wpY_mendRow
  refine ps_out_t 5 rfl (by omega) hk (br_t rfl ?_)
  rw [ps_6]
  exact hY _ h
theorem ps_Ymc {av g g' : Nat → Int32} {k c : Nat} (hk : k < 6) (hY : ∀ post : Int32 → SY → Prop, post (nI c) (av, g') → wpY_mendLine post (av, g) (nI k) (nI 6)) (post : Int32 → SY → Prop) (h : post (nI c) (av, g')) : wpY_mendColumn post (av, g) (nI k) := by
  unfold wpY_mendColumn
  refine ps_out_t 5 rfl (by omega) hk (br_t rfl ?_)
  exact hY _ h
theorem i_vc_mendRow {k : Nat} {u : SX} {v : SY} (I : i_Rel k u v) (hk : k + 4 ≤ 2048) (v1 : Int32) : wpX_mendRow (fun r u' => wpY_mendRow (fun r' v' => r' = r ∧ i_Rel (k + 4) u' v') v v1) u v1 := by
  obtain ⟨f1, f2, f3, s, g, P, L, ln, av, val, rfl, rfl, hT, hv, hR⟩ := I
  unfold wpX_mendRow
  by_cases h0 : ps_B 6 v1
  · obtain ⟨r, hr, rfl⟩ := h0
    obtain ⟨c, f1', f2', f3', s', g', ln', hc, hR', hX, hY⟩ := ps_ml (f1 := f1) (f2 := f2) (f3 := f3) (ln := ln) (av := av) hT (ps_row hr) hR
    refine ps_isCell_t (c := 0) hr (by omega) (br_f (by decide) ?_)
    rw [ps_6]
    exact hX _ (ps_Ymr hr hY _ ⟨rfl, ps_mk hT hv hR'⟩)
  · unfold wpY_mendRow
    exact ps_isCell_f (fun h => h0 h.1) (br_t rfl (ps_out_f 5 rfl (by omega) h0 (br_f (by decide) ⟨rfl, ps_mk hT hv hR⟩)))
theorem i_vc_mendColumn {k : Nat} {u : SX} {v : SY} (I : i_Rel k u v) (hk : k + 4 ≤ 2048) (v1 : Int32) : wpX_mendColumn (fun r u' => wpY_mendColumn (fun r' v' => r' = r ∧ i_Rel (k + 4) u' v') v v1) u v1 := by
  obtain ⟨f1, f2, f3, s, g, P, L, ln, av, val, rfl, rfl, hT, hv, hR⟩ := I
  unfold wpX_mendColumn
  by_cases h0 : ps_B 6 v1
  · obtain ⟨r, hr, rfl⟩ := h0
    obtain ⟨c, f1', f2', f3', s', g', ln', hc, hR', hX, hY⟩ := ps_ml (f1 := f1) (f2 := f2) (f3 := f3) (ln := ln) (av := av) hT (ps_col hr) hR
    refine ps_isCell_t (r := 0) (by omega) hr (br_f (by decide) ?_)
    exact hX _ (ps_Ymc hr hY _ ⟨rfl, ps_mk hT hv hR'⟩)
  · unfold wpY_mendColumn
    exact ps_isCell_f (fun h => h0 h.2) (br_t rfl (ps_out_f 5 rfl (by omega) h0 (br_f (by decide) ⟨rfl, ps_mk hT hv hR⟩)))
/-- whether a round mended anything -/
def ps_fl (n : Nat) : Int32 := if n = 0 then 0 else 1
theorem ps_m22 {P L av : Nat → Int32} {val : Nat → BitVec 8} (hT : ps_TB P L) : ∀ (d k n : Nat) (f1 f2 f3 : Int32) (s g ln : Nat → Int32), k + d = 6 → n + 4 * d ≤ 24 → ps_Rep g s (gf_cm val) →
    ∃ (n' : Nat) (f1' f2' f3' : Int32) (s' g' ln' : Nat → Int32), n' ≤ 24 ∧ ps_Rep g' s' (gf_cm val) ∧
      (∀ (post : Int32 → SX → Prop) (J : Int32 → Int32 → Int32 → Int32 → Int32 → Int32 → (Nat → Int32) → (Nat → Int32) → (Nat → Int32) → (Nat → Int32) → (Nat → Int32) → Prop) (A R : Nat),
        J (nI (A + n')) (ps_fl n') (nI (R + 1)) f1' f2' f3' s' g' P L ln' → wX_mend_22 post J (nI A) (nI R) (d + 1) (nI n) (nI k) f1 f2 f3 s g P L ln) ∧
      (∀ (post : Int32 → SY → Prop) (J : Int32 → Int32 → Int32 → (Nat → Int32) → (Nat → Int32) → Prop) (A R : Nat), A < 10000 →
        J (nI (A + n')) (ps_fl n') (nI (R + 1)) av g' → wY_mend_22 post J (nI R) (nI A) (d + 1) (nI (A + n)) (nI k) av g) := by
  intro d
  induction d with
  | zero =>
    intro k n f1 f2 f3 s g ln hk hn hR
    refine ⟨n, f1, f2, f3, s, g, ln, by omega, hR, fun post J A R h => ?_, fun post J A R hA h => ?_⟩
    · rw [wX_mend_22]
      refine br_t (nI_le (a := 6) (by omega) (by omega)) (nm_r (nI_add A n) (pk_le n 0 (fun z => ?_) (fun z => ?_)))
      · rw [ps_fl, if_pos (by omega)] at h
        exact nm_r (nI_1 R) h
      · rw [ps_fl, if_neg (by omega)] at h
        exact nm_r (nI_1 R) h
    · rw [wY_mend_22]
      refine br_t (nI_le (a := 6) (by omega) (by omega)) (pk_le (A + n) A (fun z => ?_) (fun z => ?_))
      · rw [ps_fl, if_pos (by omega)] at h
        exact nm_r (nI_1 R) h
      · rw [ps_fl, if_neg (by omega)] at h
        exact nm_r (nI_1 R) h
  | succ d ih =>
    intro k n f1 f2 f3 s g ln hk hn hR
    obtain ⟨c1, p1, p2, p3, s1, g1, l1, hc1, hR1, hX1, hY1⟩ := ps_ml (f1 := f1) (f2 := f2) (f3 := f3) (ln := ln) (av := av) hT (ps_row (show k < 6 by omega)) hR
    obtain ⟨c2, q1, q2, q3, s2, g2, l2, hc2, hR2, hX2, hY2⟩ := ps_ml (f1 := p1) (f2 := p2) (f3 := p3) (ln := l1) (av := av) hT (ps_col (show k < 6 by omega)) hR1
    obtain ⟨n', r1, r2, r3, s3, g3, l3, hn', hR3, hX3, hY3⟩ := ih (k + 1) (n + c1 + c2) q1 q2 q3 s2 g2 l2 (by omega) (by omega) hR2
    refine ⟨n', r1, r2, r3, s3, g3, l3, hn', hR3, fun post J A R h => ?_, fun post J A R hA h => ?_⟩
    · rw [wX_mend_22]
      refine br_f (nI_ge (b := 6) (by omega) (by omega)) ?_
      rw [ps_6]
      exact hX1 _ (nm_r (nI_add n c1) (hX2 _ (nm_r (nI_add (n + c1) c2) (nm_r (nI_1 k) (hX3 post J A R h)))))
    · have e := hY3 post J A R hA h
      rw [show A + (n + c1 + c2) = A + n + c1 + c2 by omega] at e
      rw [wY_mend_22]
      refine br_f (nI_ge (b := 6) (by omega) (by omega)) ?_
      exact ps_Ymr (by omega) hY1 _ (nm_r (nI_add (A + n) c1) (ps_Ymc (by omega) hY2 _ (nm_r (nI_add (A + n + c1) c2) (nm_r (nI_1 k) e))))
theorem ps_m6 {P L av : Nat → Int32} {val : Nat → BitVec 8} (hT : ps_TB P L) : ∀ (d R A : Nat) (b f1 f2 f3 : Int32) (s g ln : Nat → Int32), R + d = 37 → A ≤ 24 * R → ps_Rep g s (gf_cm val) →
    ∃ (n' : Nat) (f1' f2' f3' : Int32) (s' g' ln' : Nat → Int32), ps_Rep g' s' (gf_cm val) ∧
      (∀ post : Int32 → SX → Prop, post (nI n') (f1', f2', f3', s', g', P, L, ln') → wX_mend_6 post (d + 1) (nI A) b (nI R) f1 f2 f3 s g P L ln) ∧
      (∀ post : Int32 → SY → Prop, post (nI n') (av, g') → wY_mend_6 post (d + 1) (nI A) b (nI R) av g) := by
  intro d
  induction d with
  | zero =>
    intro R A b f1 f2 f3 s g ln hk hn hR
    refine ⟨A, f1, f2, f3, s, g, ln, hR, fun post h => ?_, fun post h => ?_⟩
    · rw [wX_mend_6]
      exact br_t (nI_le (a := 37) (by omega) (by omega)) h
    · rw [wY_mend_6]
      exact br_t (nI_le (a := 37) (by omega) (by omega)) h
  | succ d ih =>
    intro R A b f1 f2 f3 s g ln hk hn hR
    by_cases hb : b = 0
    · refine ⟨A, f1, f2, f3, s, g, ln, hR, fun post h => ?_, fun post h => ?_⟩
      · rw [wX_mend_6]
        exact br_f (nI_ge (b := 37) (by omega) (by omega)) (br_t hb h)
      · rw [wY_mend_6]
        exact br_f (nI_ge (b := 37) (by omega) (by omega)) (br_t hb h)
    · obtain ⟨n1, p1, p2, p3, s1, g1, l1, hn1, hR1, hX1, hY1⟩ := ps_m22 (av := av) hT 6 0 0 f1 f2 f3 s g ln (by omega) (by omega) hR
      obtain ⟨n2, q1, q2, q3, s2, g2, l2, hR2, hX2, hY2⟩ := ih (R + 1) (A + n1) (ps_fl n1) p1 p2 p3 s1 g1 l1 (by omega) (by omega) hR1
      refine ⟨n2, q1, q2, q3, s2, g2, l2, hR2, fun post h => ?_, fun post h => ?_⟩
      · rw [wX_mend_6]
        exact br_f (nI_ge (b := 37) (by omega) (by omega)) (br_f hb ⟨7, hX1 post _ A R (hX2 post h)⟩)
      · rw [wY_mend_6]
        exact br_f (nI_ge (b := 37) (by omega) (by omega)) (br_f hb ⟨7, hY1 post _ A R (by omega) (hY2 post h)⟩)
theorem i_vc_mend {k : Nat} {u : SX} {v : SY} (I : i_Rel k u v) (hk : k + 4 ≤ 2048) : wpX_mend (fun r u' => wpY_mend (fun r' v' => r' = r ∧ i_Rel (k + 4) u' v') v) u := by
  obtain ⟨f1, f2, f3, s, g, P, L, ln, av, val, rfl, rfl, hT, hv, hR⟩ := I
  obtain ⟨n', f1', f2', f3', s', g', ln', hR', hX, hY⟩ := ps_m6 (av := av) hT 37 0 0 1 f1 f2 f3 s g ln (by omega) (by omega) hR
  unfold wpX_mend wpY_mend
  exact ⟨38, hX _ ⟨38, hY _ ⟨rfl, ps_mk hT hv hR'⟩⟩⟩
end
