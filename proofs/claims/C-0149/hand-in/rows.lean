section
/-! rows of kit/rows, pasted (starting text) -/
theorem pk_us {f : Nat → Int32} {k : Nat} {x : Int32} : upd f k x k = x := if_pos rfl
theorem pk_un {f : Nat → Int32} {k j : Nat} {x : Int32} (h : j ≠ k) : upd f k x j = f j := if_neg h
theorem pk_sub {a b : Nat} (h : b ≤ a) : nI a - nI b = nI (a - b) := by
  obtain ⟨c, rfl⟩ : ∃ c, a = c + b := ⟨a - b, by omega⟩
  rw [← nI_add, Int32.add_sub_cancel, Nat.add_sub_cancel]
theorem pk_m1 (n : Nat) : nI (n + 1) + (-1) = nI n := by
  rw [← nI_1, Int32.add_assoc, show (1 : Int32) + (-1) = 0 from rfl, Int32.add_zero]
theorem pk_mul (a b : Nat) : nI a * nI b = nI (a * b) := (Int32.ofNat_mul a b).symm
theorem pk_div {a d : Nat} (ha : a < 2 ^ 31) (h0 : 0 < d) (hd : d < 2 ^ 31) : nI a / nI d = nI (a / d) := by
  apply Int32.toInt_inj.mp
  rw [lg_idiv_nonneg (by rw [nI_toInt ha]; omega) (by rw [nI_toInt hd]; omega), nI_toInt ha, nI_toInt hd, nI_toInt (Nat.lt_of_le_of_lt (Nat.div_le_self a d) ha)]
  first | rfl | exact (Int.natCast_ediv _ _).symm
theorem pk_rem {a d : Nat} (ha : a < 2 ^ 31) (h0 : 0 < d) (hd : d < 2 ^ 31) : nI a - nI a / nI d * nI d = nI (a % d) := by
  rw [pk_div ha h0 hd, pk_mul, pk_sub (Nat.div_mul_le_self a d)]
  exact congrArg nI (by have := Nat.div_add_mod' a d; omega)
theorem pk_le {x y : Int32} {A B : Prop} (a b : Nat) (f : a ≤ b → A) (g : b < a → B) (hx : x = nI a := by rfl) (hy : y = nI b := by rfl) (ha : a < 2 ^ 31 := by omega) (hb : b < 2 ^ 31 := by omega) : (x ≤ y → A) ∧ (¬ x ≤ y → B) := by
  subst hx hy
  rw [nI_leI ha hb]
  exact ⟨f, fun z => g (by omega)⟩
theorem pk_lt {x y : Int32} {A B : Prop} (a b : Nat) (f : a < b → A) (g : b ≤ a → B) (hx : x = nI a := by rfl) (hy : y = nI b := by rfl) (ha : a < 2 ^ 31 := by omega) (hb : b < 2 ^ 31 := by omega) : (x < y → A) ∧ (¬ x < y → B) := by
  subst hx hy
  rw [nI_ltI ha hb]
  exact ⟨f, fun z => g (by omega)⟩
theorem pk_eq {x y : Int32} {A B : Prop} (a b : Nat) (f : a = b → A) (g : a ≠ b → B) (hx : x = nI a := by rfl) (hy : y = nI b := by rfl) (ha : a < 2 ^ 31 := by omega) (hb : b < 2 ^ 31 := by omega) : (x = y → A) ∧ (¬ x = y → B) := by
  subst hx hy
  rw [nI_eq ha hb]
  exact ⟨f, g⟩
theorem pk_in {x : Int32} (n N : Nat) (h : n < N) (hx : x = nI n := by rfl) (hN : N < 2 ^ 31 := by omega) : vp_in x N := by
  subst hx
  exact vp_in_nI h hN
theorem pk_cl {x : Int32} (n : Nat) (hx : x = nI n := by rfl) (h : n < 2 ^ 31 := by omega) : x.toNatClampNeg = n := by
  subst hx
  exact nI_clamp h
theorem pk_tn {n : Nat} (h : n < 2 ^ 32) : (nI n).toBitVec.toNat = n := Nat.mod_eq_of_lt h
theorem pk_and (x : Int32) {m : Int32} (k : Nat) (hm : m.toBitVec.toNat = 2 ^ k - 1) : x &&& m = nI (x.toBitVec.toNat % 2 ^ k) := by
  apply Int32.toBitVec_inj.mp
  apply BitVec.eq_of_toNat_eq
  rw [Int32.toBitVec_and, BitVec.toNat_and, hm, Nat.and_two_pow_sub_one_eq_mod]
  show _ = (BitVec.ofNat 32 _).toNat
  rw [BitVec.toNat_ofNat]
  exact (Nat.mod_eq_of_lt (Nat.lt_of_le_of_lt (Nat.mod_le _ _) x.toBitVec.isLt)).symm
theorem pk_andN {n : Nat} (h : n < 2 ^ 32) {m : Int32} (k : Nat) (hm : m.toBitVec.toNat = 2 ^ k - 1) : nI n &&& m = nI (n % 2 ^ k) := by
  rw [pk_and _ k hm, pk_tn h]
theorem pk_shl (a s : Int32) (k : Nat) (hs : (s.toBitVec.smod 32).toNat = k) : (a <<< s).toBitVec.toNat = a.toBitVec.toNat * 2 ^ k % 2 ^ 32 := by
  show (a.toBitVec <<< (s.toBitVec.smod 32).toNat).toNat = _
  rw [hs, BitVec.toNat_shiftLeft, Nat.shiftLeft_eq]
theorem pk_shlN {n : Nat} (s : Int32) (k : Nat) (hs : (s.toBitVec.smod 32).toNat = k) (h : n * 2 ^ k < 2 ^ 32) : nI n <<< s = nI (n * 2 ^ k) := by
  apply Int32.toBitVec_inj.mp
  apply BitVec.eq_of_toNat_eq
  have hn : n < 2 ^ 32 := Nat.lt_of_le_of_lt (Nat.le_mul_of_pos_right n (Nat.two_pow_pos k)) h
  rw [pk_shl _ _ k hs, pk_tn hn, pk_tn h, Nat.mod_eq_of_lt h]
theorem pk_shr (a s : Int32) (k : Nat) (hs : (s.toBitVec.smod 32).toNat = k) : (a >>> s).toInt = a.toInt >>> k := by
  show (a.toBitVec.sshiftRight (s.toBitVec.smod 32).toNat).toInt = _
  rw [hs, BitVec.toInt_sshiftRight]
  rfl
theorem pk_shrN {n : Nat} (h : n < 2 ^ 31) (s : Int32) (k : Nat) (hs : (s.toBitVec.smod 32).toNat = k) : nI n >>> s = nI (n / 2 ^ k) := by
  apply Int32.toInt_inj.mp
  have h2 : n / 2 ^ k ≤ n := Nat.div_le_self _ _
  rw [pk_shr _ _ k hs, nI_toInt h, nI_toInt (by omega), Int.shiftRight_eq_div_pow]
  rfl
theorem sb_negT {w : Nat} (h : w < 2 ^ 31) : (-nI w).toInt = -(w : Int) := by
  rw [Int32.toInt_neg, nI_toInt h]
  exact Int.bmod_eq_of_le (by omega) (by omega)
theorem nx_and (a b : Nat) : nI a &&& nI b = nI (a &&& b) := by
  apply Int32.toBitVec_inj.1
  show BitVec.ofNat 32 a &&& BitVec.ofNat 32 b = BitVec.ofNat 32 (a &&& b)
  apply BitVec.eq_of_getLsbD_eq
  intro i hi
  simp [hi]
theorem nx_xor (a b : Nat) : nI a ^^^ nI b = nI (a ^^^ b) := by
  apply Int32.toBitVec_inj.1
  show BitVec.ofNat 32 a ^^^ BitVec.ofNat 32 b = BitVec.ofNat 32 (a ^^^ b)
  apply BitVec.eq_of_getLsbD_eq
  intro i hi
  simp [hi]
end
section
/-! tables, printed by gen.py -/
def kt_EXP : Nat := 0x2a675c346d5a36120e7b2966221e0a06027f544d3b6859376c241c75524f443c140c047d2b197653316e5b483869271d0b782818087956326f25625f351370514e3a1673503010712f645d4a473d6a2663211f742c65236020615e4b39170d7a574c45423e6b5849464340413f15722e1a772d1b09077c5533110f0503017e2a675c346d5a36120e7b2966221e0a06027f544d3b6859376c241c75524f443c140c047d2b197653316e5b483869271d0b782818087956326f25625f351370514e3a1673503010712f645d4a473d6a2663211f742c65236020615e4b39170d7a574c45423e6b5849464340413f15722e1a772d1b09077c5533110f050301
def kt_LOG : Nat := 0x6c7e5a07741e484c0c57622a3a0f363f45547965182f50687c7228342d4324264223337b537867171d47066b56613e39603d6a1c2232165231151b5f141a12131119305e693c21516677417a05465538350e0b29597d734b4f2e446427712c252b704e630a0d584a203b105d4076043703751f5c4d6f0949086e025b016d00fe
def kt_INV : Nat := 0x4003205a2d52105d296557316f1e0813731f554259696a580f1a7628483a042b4e0c7811217c6b6875306d432c7a35320d5f461c140b3b631d4d2417546c027f0637273949623c263e0751333450745618227b53600577643d381645192e5b7d6e72474c0e66232f44250a4b70095c79671b4f5e4a151271363f2a617e410100
def kt_PT0 : Nat := 0x6a8322123a2181a2a9e11431af9367b07b02f2b24fa285735e234193de0267e11e91c7f10ba310a2bdf3d5f3ba53e4413ec0d3739c00f420081394b37d633151efc2d1b14f929363ae91d332dbe13050cc30e6516f22c5b2ce6196f1df8061133a6214928891770368c2b3f0ea4143b27ae000127e114130eb92b6936e1175e28d8210b33c1061d1dc3195d2cbf2c0316df0e790cda13232de51d093a9c296414d02d411ec1337337b9393900800f5c39b30d2d13cb3e383bd23d252b883168109b1c4711ca26323d9b34713589280724b32f7507bf36171acc11612acb182a23e5324506a54000
def kt_LS0 : Nat := 0x40003e443e383de03d9b3d5f3d253bd23ba53ae93a9c39c039b3394b393937d637b936e1368c367b361735e235893471341933c133a633733315324532213168310a2f752f2b2de52dbe2d412d1b2ce62cbf2c5b2c032bdf2b882b692b3f2acb2a9e2964293628d828892857280727e127ae267e263224fa24b323e523a22149210b1efc1ec11df81dc31d331d091c7f1c471af91acc196f195d182a181a1770175e16f216df14f914d0143b141313ec13cb1323130511e911ca1161114310ba109b0f5c0f420eb90ea40e790e650d370d2d0cda0cc307bf07b006a806a5061d0611008100800001
def kt_LI0 : Nat := 0x5c18650f5e16175d4f25591b561e551f353f6c08670d0e6631432054027214600a6a274d2252472d482c5f15363e056f24503341680c393b6410690b037142325321452f4e2662126d07462e04704034492b51233c385b19284c6311066e61131c58373d2a4a5a1a294b096b73013044571d3a
def kt_RK0 : Nat := 0x73737373716f6d6d6d6b6b6969676565656363615f5d5d5d5b5957575555535353535151514f4d4b494745434343413f3d3b3b3b39393937373535353535333333333331312f2d2d2b2b2b2929292727252523212121211f1d1b1919191715131313110f0d0d0b0909090909090909090907070503030303030303030303030100
def kt_PT1 : Nat := 0x15e32bc276501d6244a03ba35711787387a2ee81e7f0f93307a02f7123805de04563e91073904d5055c08eb0a703fc21a6912aa3a6026d8163e3cbd2a0b30eb22361ff01f5a1bb803420ba2023621ea080a29d0234018a60b6819e7207225b52e220ada092a0ded1004389a252222f7155a15e437161cb43c3a098f0c1034ce1b2a31e63f442fd13b4520b6000120f73b332f8e3f3a31851b1c34a70c08099c3c421c8d377815cf157022b2256838eb10240df609380acf2e7e25fe203219d40b7e189723062983081a21a902320bb503441b8f1f641fcf2272308a2a5f3cc4161226953a14128f1a5d3fbd0a6408fa055604dc07373eec045e05d5121c02f2301a0f8c1e432eb5380a17a8351b03bd240201d5272b32d9015c4000
def kt_LS1 : Nat := 0x40003fc23fbd3f443f3a3eec3e913cc43cbd3c423c3a3b453b333a603a1438eb389a387a380a377837163571351b34ce34a732d932bc31e6318530eb308a307a301a2fd12f8e2ee82eb52e7e2e222a5f2a0b29d029832765272b26d8269525fe25b525682522244a24022340230622f722b22272223621ea21a920f720b6207220321ff01fcf1f641f5a1e7f1e431cb41c8d1bb81b8f1b2a1b1c1a691a5d19e719d418a6189717a81787163e161215e415cf1570155a12aa128f1238121c102410040f930f8c0df60ded0c100c080bb50ba20b7e0b680ada0acf0a700a64099c098f0938092a08fa08eb081a080a0739073705de05d5055c055604dc04d5045e045603bd03ba0344034202f702f20236023201d601d5015e015c0001
def kt_LI1 : Nat := 0x76184b43127c1e703d514945731b365885093b5387074e40028c4c426e20810d4a44840a315d1f6f642a8b03721c305e37578905632b5638216d662846485f2f6c22236b830b523c6a244d417519602e622c0886711d543a3955741a7f0f3559820c345a4f3f26682d615c3277173e50335b167829657b137e107915147a117d06882569800e67278a048d0147
def kt_RK1 : Nat := 0x8d8b898787878785838381817f7f7f7d7b7b797979797775757575737371716f6d6b6b696767676767676767656363636363615f5f5d5b5b595957555351514f4d4b494947474745454341413f3d3d3b3b39393937353333333333312f2f2f2f2d2b2b2b2b292929272523211f1d1b19171715151513110f0d0b09070503010100
def kt_sel (c x y : Nat) : Nat := cond (Nat.beq c 1) x y
def kt_lk (T i : Nat) : Nat := Nat.land (Nat.shiftRight T (Nat.mul 8 i)) 255
def kt_lkw (T i : Nat) : Nat := Nat.land (Nat.shiftRight T (Nat.mul 16 i)) 65535
/-- the product in the field, by logarithms -/
def kt_m (a b : Nat) : Nat := Nat.land (Nat.shiftRight kt_EXP (Nat.mul 8 (Nat.add (kt_lk kt_LOG a) (kt_lk kt_LOG b)))) 127
def kt_inv (b : Nat) : Nat := Nat.land (Nat.shiftRight kt_INV (Nat.mul 8 b)) 127
/-- the number of points; the i-fold of a generator; the j-th point by number and its index; how many points lie below 128 x -/
def kt_n (c : Nat) : Nat := kt_sel c 142 116
def kt_pt (c i : Nat) : Nat := kt_lkw (kt_sel c kt_PT1 kt_PT0) i
def kt_ls (c j : Nat) : Nat := kt_lkw (kt_sel c kt_LS1 kt_LS0) j
def kt_li (c j : Nat) : Nat := kt_lk (kt_sel c kt_LI1 kt_LI0) j
def kt_rk (c x : Nat) : Nat := kt_lk (kt_sel c kt_RK1 kt_RK0) x
def kt_lam (c : Nat) : Nat := kt_sel c 103 65
def kt_all (p : Nat → Bool) : Nat → Bool
  | 0 => true
  | n + 1 => cond (p n) (kt_all p n) false
theorem kt_ff {P : Prop} (h : false = true) : P := absurd h (by decide)
theorem kt_all_ok {p : Nat → Bool} : ∀ {n : Nat}, kt_all p n = true → ∀ i, i < n → p i = true := by
  intro n
  induction n with
  | zero => intro _ i hi; exact absurd hi (Nat.not_lt_zero i)
  | succ n ih =>
    intro h i hi
    have h' : cond (p n) (kt_all p n) false = true := h
    cases hp : p n with
    | false => rw [hp] at h'; exact kt_ff h'
    | true =>
      rw [hp] at h'
      by_cases e : i = n
      · rw [e]; exact hp
      · exact ih h' i (by omega)
theorem kt_all2 {p : Nat → Nat → Bool} {n k : Nat} (h : kt_all (fun a => kt_all (p a) k) n = true) : ∀ a, a < n → ∀ b, b < k → p a b = true :=
  fun a ha b hb => kt_all_ok (kt_all_ok (p := fun a => kt_all (p a) k) h a ha) b hb
theorem kt_m_lt (a b : Nat) : kt_m a b < 128 := Nat.and_lt_two_pow (n := 7) _ (by decide)
theorem kt_inv_lt (b : Nat) : kt_inv b < 128 := Nat.and_lt_two_pow (n := 7) _ (by decide)
theorem kt_xl {a b : Nat} (ha : a < 128) (hb : b < 128) : a ^^^ b < 128 := Nat.xor_lt_two_pow (n := 7) ha hb
theorem kt_c2 {P : Nat → Prop} (h0 : P 0) (h1 : P 1) {c : Nat} (hc : c < 2) : P c := by
  have h : c = 0 ∨ c = 1 := by omega
  rcases h with rfl | rfl
  · exact h0
  · exact h1
theorem kt_n_lt (c : Nat) : kt_n c < 143 ∧ 115 < kt_n c := by
  unfold kt_n kt_sel
  cases Nat.beq c 1
  · exact ⟨by decide, by decide⟩
  · exact ⟨by decide, by decide⟩
end
section
/-! the field: walks of mul, product, inverse, quotient, trace, root, squareRoot -/
theorem nx_or (a b : Nat) : nI a ||| nI b = nI (a ||| b) := by
  apply Int32.toBitVec_inj.1
  show BitVec.ofNat 32 a ||| BitVec.ofNat 32 b = BitVec.ofNat 32 (a ||| b)
  apply BitVec.eq_of_getLsbD_eq
  intro i hi
  simp [hi]
theorem kt_bitD : ∀ b, b < 128 → ∀ i, i < 7 → (decide (((nI b >>> (nI i &&& 31)) &&& 1) = 1) = Nat.beq (Nat.land (Nat.shiftRight b i) 1) 1) := by decide +kernel
theorem kt_bitI {b i : Nat} (hb : b < 128) (hi : i < 7) : (((nI b >>> (nI i &&& 31)) &&& 1) = 1) ↔ Nat.beq (Nat.land (Nat.shiftRight b i) 1) 1 = true := by
  rw [← kt_bitD b hb i hi]
  exact decide_eq_true_iff.symm
theorem kt_shl1 {s : Nat} (hs : s < 128) : nI s <<< ((1 : Int32) &&& 31) = nI (Nat.mul 2 s) := by
  rw [pk_shlN ((1 : Int32) &&& 31) 1 (by decide) (by omega)]
  exact congrArg nI (Nat.mul_comm s 2)
theorem kt_shr7 {p : Nat} (hp : p ≤ 16384) : nI p >>> ((7 : Int32) &&& 31) = nI (p / 128) :=
  pk_shrN (by omega) ((7 : Int32) &&& 31) 7 (by decide)
theorem kt_and7 {p : Nat} (hp : p ≤ 16384) : nI p &&& 127 = nI (p % 128) :=
  pk_andN (by omega) 7 (by decide)
theorem kt_pack {s t : Nat} (hs : s < 128) (ht : t < 128) : (nI s <<< ((7 : Int32) &&& 31)) ||| nI t = nI (128 * s + t) := by
  rw [pk_shlN ((7 : Int32) &&& 31) 7 (by decide) (by omega), nx_or, Nat.mul_comm s (2 ^ 7)]
  exact congrArg nI (Nat.two_pow_add_eq_or_of_lt (i := 7) ht s).symm
theorem kt_pk128 (s t : Nat) : (128 * nI s) + nI t = nI (128 * s + t) := by
  show (nI 128 * nI s) + nI t = _
  rw [pk_mul, nI_add]
theorem kt_d128 {p : Nat} (hp : p ≤ 16384) : nI p / 128 = nI (p / 128) := pk_div (d := 128) (by omega) (by decide) (by decide)
theorem kt_r128 {p : Nat} (hp : p ≤ 16384) : nI p - nI p / 128 * 128 = nI (p % 128) := pk_rem (d := 128) (by omega) (by decide) (by decide)
theorem kt_n128 : ¬ (128 : Int32) = 0 := by decide
def kt_red (t : Nat) : Nat := cond (Nat.ble 128 t) (Nat.xor t 131) t
def kt_mulGo (b : Nat) : Nat → Nat → Nat → Nat → Nat
  | 0, _, x, _ => x
  | d + 1, i, x, s => kt_mulGo b d (i + 1) (cond (Nat.beq (Nat.land (Nat.shiftRight b i) 1) 1) (Nat.xor x s) x) (kt_red (Nat.mul 2 s))
theorem kt_redC : kt_all (fun s => Nat.ble (kt_red (Nat.mul 2 s)) 127) 128 = true := by decide +kernel
theorem kt_red_lt {s : Nat} (hs : s < 128) : kt_red (Nat.mul 2 s) < 128 := Nat.lt_succ_of_le (Nat.le_of_ble_eq_true (kt_all_ok kt_redC s hs))
theorem kt_mulC : kt_all (fun a => kt_all (fun b => Nat.beq (kt_mulGo b 7 0 0 a) (kt_m a b)) 128) 128 = true := by decide +kernel
theorem kt_mulT {a b : Nat} (ha : a < 128) (hb : b < 128) : kt_mulGo b 7 0 0 a = kt_m a b := Nat.eq_of_beq_eq_true (kt_all2 (p := fun a b => Nat.beq (kt_mulGo b 7 0 0 a) (kt_m a b)) kt_mulC a ha b hb)
section
variable {post : Int32 → Prop} {fc fn fm fa fb pa pb dg : Int32} {ad ai al : Nat → Int32}
theorem kt_x30 {J : Int32 → Int32 → Int32 → Prop} {x2 x : Int32} {s i : Nat} (hs : s < 128) (h : J x (nI (kt_red (Nat.mul 2 s))) (nI (i + 1))) : wX_mul_30 post J x2 x (nI s) (nI i) fc fn fm fa fb pa pb dg ad := by
  have h2 : Nat.mul 2 s = 2 * s := rfl
  unfold wX_mul_30
  refine nm_r (kt_shl1 hs) ?_
  refine pk_lt (Nat.mul 2 s) 128 (fun h1 => nm_r (nI_1 i) ?_) (fun h1 => nm_r (e' := nI (Nat.xor (Nat.mul 2 s) 131)) (nx_xor _ 131) (nm_r (nI_1 i) ?_))
  · have e : kt_red (Nat.mul 2 s) = Nat.mul 2 s := by
      unfold kt_red
      cases z : Nat.ble 128 (Nat.mul 2 s) with
      | false => rfl
      | true => have := Nat.le_of_ble_eq_true z; omega
    rw [e] at h; exact h
  · have e : kt_red (Nat.mul 2 s) = Nat.xor (Nat.mul 2 s) 131 := by
      unfold kt_red
      rw [show Nat.ble 128 (Nat.mul 2 s) = true from Nat.ble_eq_true_of_le h1]; rfl
    rw [e] at h; exact h
theorem kt_xmulL {b : Nat} (hb : b < 128) : ∀ d i x s, i + d = 7 → s < 128 → post (nI (kt_mulGo b d i x s)) → wX_mul_8 post (nI b) fc fn fm fa fb pa pb dg ad (d + 1) (nI x) (nI s) (nI i) := by
  intro d
  induction d with
  | zero =>
    intro i x s hi hs h
    exact br_t (nI_le (a := 7) (by omega) (by omega)) h
  | succ d ih =>
    intro i x s hi hs h
    have hr := kt_red_lt hs
    refine br_f (nI_ge (b := 7) (by omega) (by decide)) ?_
    cases z : Nat.beq (Nat.land (Nat.shiftRight b i) 1) 1 with
    | true =>
      refine br_t ((kt_bitI hb (by omega)).mpr z) (nm_r (e' := nI (Nat.xor x s)) (nx_xor x s) (kt_x30 hs (ih _ _ _ (by omega) hr ?_)))
      rw [kt_mulGo, z] at h; exact h
    | false =>
      refine br_f (fun y => ?_) (kt_x30 hs (ih _ _ _ (by omega) hr ?_))
      · rw [kt_bitI hb (by omega), z] at y; exact absurd y (by decide)
      · rw [kt_mulGo, z] at h; exact h
theorem kt_xmul {u : SX} {a b : Nat} (ha : a < 128) (hb : b < 128) (h : post (nI (kt_m a b))) : wpX_mul post u (nI a) (nI b) := by
  obtain ⟨fc, fn, fm, fa, fb, pa, pb, dg, ad⟩ := u
  rw [← kt_mulT ha hb] at h
  exact Exists.intro 8 (kt_xmulL hb 7 0 0 a rfl ha h)
theorem kt_y33 {J : Int32 → Int32 → Int32 → Prop} {x2 x : Int32} {s i : Nat} (hs : s < 128) (h : J x (nI (kt_red (Nat.mul 2 s))) (nI (i + 1))) : wY_product_33 post J x2 (nI s) (nI i) x fa fn ai al := by
  have h2 : Nat.mul 2 s = 2 * s := rfl
  unfold wY_product_33
  refine nm_r (kt_shl1 hs) ?_
  refine pk_le (Nat.mul 2 s) 127 (fun h1 => nm_r (nI_1 i) ?_) (fun h1 => nm_r (e' := nI (Nat.xor (Nat.mul 2 s) 131)) (nx_xor _ 131) (nm_r (nI_1 i) ?_))
  · have e : kt_red (Nat.mul 2 s) = Nat.mul 2 s := by
      unfold kt_red
      cases z : Nat.ble 128 (Nat.mul 2 s) with
      | false => rfl
      | true => have := Nat.le_of_ble_eq_true z; omega
    rw [e] at h; exact h
  · have e : kt_red (Nat.mul 2 s) = Nat.xor (Nat.mul 2 s) 131 := by
      unfold kt_red
      rw [show Nat.ble 128 (Nat.mul 2 s) = true from Nat.ble_eq_true_of_le h1]; rfl
    rw [e] at h; exact h
theorem kt_yprodL {b : Nat} (hb : b < 128) : ∀ d i x s, i + d = 7 → s < 128 → post (nI (kt_mulGo b d i x s)) → wY_product_8 post (nI b) fa fn ai al (d + 1) (nI x) (nI s) (nI i) := by
  intro d
  induction d with
  | zero =>
    intro i x s hi hs h
    exact br_t (nI_le (a := 7) (by omega) (by omega)) h
  | succ d ih =>
    intro i x s hi hs h
    have hr := kt_red_lt hs
    refine br_f (nI_ge (b := 7) (by omega) (by decide)) ?_
    cases z : Nat.beq (Nat.land (Nat.shiftRight b i) 1) 1 with
    | true =>
      refine br_t ((kt_bitI hb (by omega)).mpr z) ?_
      rw [nx_xor]
      refine kt_y33 hs (ih _ _ _ (by omega) hr ?_)
      rw [kt_mulGo, z] at h; exact h
    | false =>
      refine br_f (fun y => ?_) (kt_y33 hs (ih _ _ _ (by omega) hr ?_))
      · rw [kt_bitI hb (by omega), z] at y; exact absurd y (by decide)
      · rw [kt_mulGo, z] at h; exact h
theorem kt_yprod {u : SY} {a b : Nat} (ha : a < 128) (hb : b < 128) (h : post (nI (kt_m a b))) : wpY_product post u (nI a) (nI b) := by
  obtain ⟨fa, fn, ai, al⟩ := u
  rw [← kt_mulT ha hb] at h
  exact Exists.intro 8 (kt_yprodL hb 7 0 0 a rfl ha h)
end
def kt_invGo : Nat → Nat → Nat → Nat
  | 0, x, _ => x
  | d + 1, x, s => kt_invGo d (kt_m x (kt_m s s)) (kt_m s s)
def kt_trGo : Nat → Nat → Nat → Nat
  | 0, x, _ => x
  | d + 1, x, p => kt_trGo d (Nat.xor x p) (kt_m p p)
def kt_rtGo : Nat → Nat → Nat → Nat
  | 0, x, _ => x
  | d + 1, x, p => kt_rtGo d (Nat.xor x p) (kt_m (kt_m p p) (kt_m p p))
def kt_sqGo : Nat → Nat → Nat
  | 0, x => x
  | d + 1, x => kt_sqGo d (kt_m x x)
def kt_tr (a : Nat) : Nat := kt_trGo 7 0 a
def kt_rt (a : Nat) : Nat := kt_rtGo 4 0 a
def kt_sqr (a : Nat) : Nat := kt_sqGo 6 a
theorem kt_invC : kt_all (fun b => Nat.beq (kt_invGo 6 1 b) (kt_inv b)) 128 = true := by decide +kernel
theorem kt_invT {b : Nat} (hb : b < 128) : kt_invGo 6 1 b = kt_inv b := Nat.eq_of_beq_eq_true (kt_all_ok kt_invC b hb)
theorem kt_trC : kt_all (fun b => Nat.ble (kt_tr b) 127 && Nat.ble (kt_rt b) 127 && Nat.ble (kt_sqr b) 127) 128 = true := by decide +kernel
theorem kt_trL {b : Nat} (hb : b < 128) : kt_tr b < 128 ∧ kt_rt b < 128 ∧ kt_sqr b < 128 := by
  have h := kt_all_ok kt_trC b hb
  simp only [Bool.and_eq_true, Nat.ble_eq] at h
  omega
section
variable {post : Int32 → Prop} {fc fn fm fa fb pa pb dg : Int32} {ad ai al : Nat → Int32}
theorem kt_xinvL : ∀ d i x s, i + d = 7 → x < 128 → s < 128 → post (nI (kt_invGo d x s)) → wX_inverse_7 post fc fn fm fa fb pa pb dg ad (d + 1) (nI x) (nI s) (nI i) := by
  intro d
  induction d with
  | zero =>
    intro i x s hi hx hs h
    exact br_t (nI_le (a := 7) (by omega) (by omega)) h
  | succ d ih =>
    intro i x s hi hx hs h
    refine br_f (nI_ge (b := 7) (by omega) (by decide)) ?_
    exact kt_xmul hs hs (kt_xmul hx (kt_m_lt _ _) (nm_r (nI_1 i) (ih _ _ _ (by omega) (kt_m_lt _ _) (kt_m_lt _ _) h)))
theorem kt_xinv {u : SX} {b : Nat} (hb : b < 128) (h : post (nI (kt_inv b))) : wpX_inverse post u (nI b) := by
  obtain ⟨fc, fn, fm, fa, fb, pa, pb, dg, ad⟩ := u
  rw [← kt_invT hb] at h
  exact Exists.intro 7 (kt_xinvL 6 1 1 b rfl (by decide) hb h)
theorem kt_xquot {u : SX} {a b : Nat} (ha : a < 128) (hb : b < 128) (h : post (nI (kt_m a (kt_inv b)))) : wpX_quotient post u (nI a) (nI b) := by
  obtain ⟨fc, fn, fm, fa, fb, pa, pb, dg, ad⟩ := u
  unfold wpX_quotient
  dsimp only
  exact kt_xinv hb (kt_xmul ha (kt_inv_lt _) h)
theorem kt_xtrL : ∀ d i x s, i + d = 7 → s < 128 → post (nI (kt_trGo d x s)) → wX_trace_7 post fc fn fm fa fb pa pb dg ad (d + 1) (nI x) (nI s) (nI i) := by
  intro d
  induction d with
  | zero =>
    intro i x s hi hs h
    exact br_t (nI_le (a := 7) (by omega) (by omega)) h
  | succ d ih =>
    intro i x s hi hs h
    refine br_f (nI_ge (b := 7) (by omega) (by decide)) ?_
    exact nm_r (e' := nI (Nat.xor x s)) (nx_xor x s) (kt_xmul hs hs (nm_r (nI_1 i) (ih _ _ _ (by omega) (kt_m_lt _ _) h)))
theorem kt_xtr {u : SX} {b : Nat} (hb : b < 128) (h : post (nI (kt_tr b))) : wpX_trace post u (nI b) := by
  obtain ⟨fc, fn, fm, fa, fb, pa, pb, dg, ad⟩ := u
  exact Exists.intro 8 (kt_xtrL 7 0 0 b rfl hb h)
theorem kt_xrtL : ∀ d i x s, i + d = 4 → s < 128 → post (nI (kt_rtGo d x s)) → wX_root_7 post fc fn fm fa fb pa pb dg ad (d + 1) (nI x) (nI s) (nI i) := by
  intro d
  induction d with
  | zero =>
    intro i x s hi hs h
    exact br_t (nI_le (a := 4) (by omega) (by omega)) h
  | succ d ih =>
    intro i x s hi hs h
    refine br_f (nI_ge (b := 4) (by omega) (by decide)) ?_
    exact nm_r (e' := nI (Nat.xor x s)) (nx_xor x s) (kt_xmul hs hs (kt_xmul (kt_m_lt _ _) (kt_m_lt _ _) (nm_r (nI_1 i) (ih _ _ _ (by omega) (kt_m_lt _ _) h))))
theorem kt_xrt {u : SX} {b : Nat} (hb : b < 128) (h : post (nI (kt_rt b))) : wpX_root post u (nI b) := by
  obtain ⟨fc, fn, fm, fa, fb, pa, pb, dg, ad⟩ := u
  exact Exists.intro 5 (kt_xrtL 4 0 0 b rfl hb h)
theorem kt_xsqrL : ∀ d i x, i + d = 7 → x < 128 → post (nI (kt_sqGo d x)) → wX_squareRoot_4 post fc fn fm fa fb pa pb dg ad (d + 1) (nI x) (nI i) := by
  intro d
  induction d with
  | zero =>
    intro i x hi hx h
    exact br_t (nI_le (a := 7) (by omega) (by omega)) h
  | succ d ih =>
    intro i x hi hx h
    refine br_f (nI_ge (b := 7) (by omega) (by decide)) ?_
    exact kt_xmul hx hx (nm_r (nI_1 i) (ih _ _ (by omega) (kt_m_lt _ _) h))
theorem kt_xsqr {u : SX} {b : Nat} (hb : b < 128) (h : post (nI (kt_sqr b))) : wpX_squareRoot post u (nI b) := by
  obtain ⟨fc, fn, fm, fa, fb, pa, pb, dg, ad⟩ := u
  exact Exists.intro 7 (kt_xsqrL 6 1 b rfl hb h)
theorem kt_yquot {a b : Nat} (ha : a < 128) (hb : b < 128) (hi : ∀ j, j < 128 → ai j = nI (kt_inv j)) (h : post (nI (kt_m a (kt_inv b)))) : wpY_quotient post (fa, fn, ai, al) (nI a) (nI b) := by
  refine And.intro (vp_in_nI hb (by decide)) ?_
  show wpY_product (fun r_2 => post r_2) (fa, fn, ai, al) (nI a) (ai (nI b).toNatClampNeg)
  rw [nI_clamp (by omega), hi b hb]
  exact kt_yprod ha (kt_inv_lt _) h
end
end
section
/-! points: pure pictures of onCurve, minus, twice, sum, squared, and their kernel checks against the table -/
def kt_on (c x y : Nat) : Bool := Nat.beq (Nat.xor (kt_m y y) (kt_m x y)) (Nat.xor (Nat.xor (kt_m (kt_m x x) x) (kt_sel c (kt_m x x) 0)) 1)
/-- one row of the square: d cells from y on, k points found so far -/
def kt_rowc (c x : Nat) : Nat → Nat → Nat → Bool
  | 0, _, k => Nat.beq k (kt_rk c (Nat.add x 1))
  | d + 1, y, k => cond (kt_on c x y) (cond (Nat.beq (kt_ls c k) (Nat.add (Nat.mul 128 x) y)) (cond (Nat.ble (Nat.add k 2) (kt_n c)) (kt_rowc c x d (Nat.add y 1) (Nat.add k 1)) false) false) (kt_rowc c x d (Nat.add y 1) k)
theorem kt_rowC0 : kt_all (fun x => kt_rowc 0 x 128 0 (kt_rk 0 x)) 128 = true := by decide +kernel
theorem kt_rowC1 : kt_all (fun x => kt_rowc 1 x 128 0 (kt_rk 1 x)) 128 = true := by decide +kernel
theorem kt_row {c x : Nat} (hc : c < 2) (hx : x < 128) : kt_rowc c x 128 0 (kt_rk c x) = true :=
  kt_c2 (P := fun c => kt_rowc c x 128 0 (kt_rk c x) = true) (kt_all_ok kt_rowC0 x hx) (kt_all_ok kt_rowC1 x hx) hc
theorem kt_rk_0 {c : Nat} (hc : c < 2) : kt_rk c 0 = 0 := kt_c2 (P := fun c => kt_rk c 0 = 0) (by decide +kernel) (by decide +kernel) hc
theorem kt_rk_e {c : Nat} (hc : c < 2) : kt_rk c 128 + 1 = kt_n c := kt_c2 (P := fun c => kt_rk c 128 + 1 = kt_n c) (by decide +kernel) (by decide +kernel) hc
theorem kt_ls_e {c : Nat} (hc : c < 2) : kt_ls c (kt_rk c 128) = 16384 := kt_c2 (P := fun c => kt_ls c (kt_rk c 128) = 16384) (by decide +kernel) (by decide +kernel) hc
theorem kt_pt_0 {c : Nat} (hc : c < 2) : kt_pt c 0 = 16384 := kt_c2 (P := fun c => kt_pt c 0 = 16384) (by decide +kernel) (by decide +kernel) hc
theorem kt_row_step {c x d y k : Nat} (h : kt_rowc c x (d + 1) y k = true) : (kt_on c x y = true ∧ kt_ls c k = 128 * x + y ∧ k + 2 ≤ kt_n c ∧ kt_rowc c x d (y + 1) (k + 1) = true) ∨ (kt_on c x y = false ∧ kt_rowc c x d (y + 1) k = true) := by
  rw [kt_rowc] at h
  cases z : kt_on c x y with
  | false => rw [z] at h; exact Or.inr ⟨rfl, h⟩
  | true =>
    rw [z] at h
    cases z2 : Nat.beq (kt_ls c k) (Nat.add (Nat.mul 128 x) y) with
    | false => rw [z2] at h; exact kt_ff h
    | true =>
      cases z3 : Nat.ble (Nat.add k 2) (kt_n c) with
      | false => rw [z2, z3] at h; exact kt_ff h
      | true =>
        rw [z2, z3] at h
        exact Or.inl ⟨rfl, Nat.eq_of_beq_eq_true z2, Nat.le_of_ble_eq_true z3, h⟩
theorem kt_row_mem {c x : Nat} : ∀ d y k, kt_rowc c x d y k = true → ∀ y', y ≤ y' → y' < y + d → kt_on c x y' = true → ∃ j, j + 1 < kt_n c ∧ kt_ls c j = 128 * x + y' := by
  intro d
  induction d with
  | zero => intro y k _ y' h1 h2; omega
  | succ d ih =>
    intro y k h y' h1 h2 h3
    rcases kt_row_step h with ⟨a, b, e, f⟩ | ⟨a, f⟩
    · by_cases z : y' = y
      · exact ⟨k, by omega, by rw [z]; exact b⟩
      · exact ih (y + 1) (k + 1) f y' (by omega) (by omega) h3
    · by_cases z : y' = y
      · rw [z, a] at h3; exact kt_ff h3
      · exact ih (y + 1) k f y' (by omega) (by omega) h3
theorem kt_lsC : kt_all (fun c => kt_all (fun j => Nat.ble (kt_ls c j) 16383 && kt_on c (Nat.div (kt_ls c j) 128) (Nat.mod (kt_ls c j) 128)) (Nat.sub (kt_n c) 1)) 2 = true := by decide +kernel
theorem kt_lsI : kt_all (fun c => kt_all (fun j => Nat.ble (Nat.add (kt_li c j) 1) (kt_n c) && Nat.beq (kt_pt c (kt_li c j)) (kt_ls c j)) (kt_n c)) 2 = true := by decide +kernel
/-- every index is the index of some place in the list -/
def kt_find (c i : Nat) : Nat → Nat → Bool
  | 0, _ => false
  | d + 1, j => cond (Nat.beq (kt_li c j) i) true (kt_find c i d (Nat.add j 1))
theorem kt_liC : kt_all (fun c => kt_all (fun i => kt_find c i (kt_n c) 0) (kt_n c)) 2 = true := by decide +kernel
theorem kt_injC : kt_all (fun c => kt_all (fun i => kt_all (fun j => cond (Nat.beq (kt_pt c i) (kt_pt c j)) (Nat.beq i j) true) (kt_n c)) (kt_n c)) 2 = true := by decide +kernel
theorem kt_allc {p : Nat → Nat → Bool} {n : Nat → Nat} (h : kt_all (fun c => kt_all (p c) (n c)) 2 = true) {c i : Nat} (hc : c < 2) (hi : i < n c) : p c i = true :=
  kt_all_ok (kt_all_ok (p := fun c => kt_all (p c) (n c)) h c hc) i hi
theorem kt_allcc {p : Nat → Nat → Nat → Bool} {n : Nat → Nat} (h : kt_all (fun c => kt_all (fun i => kt_all (p c i) (n c)) (n c)) 2 = true) {c i j : Nat} (hc : c < 2) (hi : i < n c) (hj : j < n c) : p c i j = true :=
  kt_all_ok (kt_allc (p := fun c i => kt_all (p c i) (n c)) h hc hi) j hj
theorem kt_inj {c i j : Nat} (hc : c < 2) (hi : i < kt_n c) (hj : j < kt_n c) (h : kt_pt c i = kt_pt c j) : i = j := by
  have a := kt_allcc (p := fun c i j => cond (Nat.beq (kt_pt c i) (kt_pt c j)) (Nat.beq i j) true) kt_injC hc hi hj
  rw [h, Nat.beq_refl] at a
  exact Nat.eq_of_beq_eq_true a
theorem kt_ls_on {c j : Nat} (hc : c < 2) (hj : j + 1 < kt_n c) : kt_ls c j < 16384 ∧ kt_on c (kt_ls c j / 128) (kt_ls c j % 128) = true := by
  have a := kt_allc (p := fun c j => Nat.ble (kt_ls c j) 16383 && kt_on c (Nat.div (kt_ls c j) 128) (Nat.mod (kt_ls c j) 128)) (n := fun c => Nat.sub (kt_n c) 1) kt_lsC hc (i := j) (by show j < kt_n c - 1; omega)
  rw [Bool.and_eq_true] at a
  exact ⟨Nat.lt_succ_of_le (Nat.le_of_ble_eq_true a.1), a.2⟩
theorem kt_li_ok {c j : Nat} (hc : c < 2) (hj : j < kt_n c) : kt_li c j < kt_n c ∧ kt_pt c (kt_li c j) = kt_ls c j := by
  have a := kt_allc (p := fun c j => Nat.ble (Nat.add (kt_li c j) 1) (kt_n c) && Nat.beq (kt_pt c (kt_li c j)) (kt_ls c j)) (n := kt_n) kt_lsI hc hj
  rw [Bool.and_eq_true] at a
  exact ⟨Nat.le_of_ble_eq_true a.1, Nat.eq_of_beq_eq_true a.2⟩
theorem kt_find_ok {c i : Nat} : ∀ d j, kt_find c i d j = true → ∃ j', j' < j + d ∧ kt_li c j' = i := by
  intro d
  induction d with
  | zero => intro j h; exact kt_ff h
  | succ d ih =>
    intro j h
    rw [kt_find] at h
    cases z : Nat.beq (kt_li c j) i with
    | true => exact ⟨j, by omega, Nat.eq_of_beq_eq_true z⟩
    | false =>
      rw [z] at h
      obtain ⟨j', h1, h2⟩ := ih (j + 1) h
      exact ⟨j', by omega, h2⟩
theorem kt_pl {c i : Nat} (hc : c < 2) (hi : i < kt_n c) : ∃ j, j < kt_n c ∧ kt_li c j = i := by
  obtain ⟨j, h1, h2⟩ := kt_find_ok _ _ (kt_allc (p := fun c i => kt_find c i (kt_n c) 0) (n := kt_n) kt_liC hc hi)
  exact ⟨j, by omega, h2⟩
theorem kt_pt_ls {c i : Nat} (hc : c < 2) (hi : i < kt_n c) : ∃ j, j < kt_n c ∧ kt_pt c i = kt_ls c j := by
  obtain ⟨j, hj, e⟩ := kt_pl hc hi
  exact ⟨j, hj, by rw [← e]; exact (kt_li_ok hc hj).2⟩
theorem kt_ls_le {c j : Nat} (hc : c < 2) (hj : j < kt_n c) : kt_ls c j ≤ 16384 := by
  by_cases z : j + 1 < kt_n c
  · exact Nat.le_of_lt (kt_ls_on hc z).1
  · have e : j = kt_rk c 128 := by have := kt_rk_e hc; omega
    rw [e, kt_ls_e hc]
    exact Nat.le_refl _
theorem kt_pt_le {c i : Nat} (hc : c < 2) (hi : i < kt_n c) : kt_pt c i ≤ 16384 := by
  obtain ⟨j, hj, e⟩ := kt_pt_ls hc hi
  rw [e]
  exact kt_ls_le hc hj
/-- on the curve: just the points of the table -/
theorem kt_on_pt {c p : Nat} (hc : c < 2) (hp : p < 16384) (h : kt_on c (p / 128) (p % 128) = true) : ∃ i, i < kt_n c ∧ p = kt_pt c i := by
  obtain ⟨j, h1, h2⟩ := kt_row_mem 128 0 _ (kt_row (x := p / 128) hc (by omega)) (p % 128) (by omega) (by omega) h
  have h3 := kt_li_ok hc (j := j) (by omega)
  exact ⟨kt_li c j, h3.1, by rw [h3.2, h2]; omega⟩
theorem kt_pt_on {c i : Nat} (hc : c < 2) (hi : i < kt_n c) (h : kt_pt c i ≠ 16384) : kt_pt c i < 16384 ∧ kt_on c (kt_pt c i / 128) (kt_pt c i % 128) = true := by
  obtain ⟨j, hj, e⟩ := kt_pt_ls hc hi
  by_cases z : j + 1 < kt_n c
  · rw [e]; exact kt_ls_on hc z
  · have e2 : j = kt_rk c 128 := by have := kt_rk_e hc; omega
    rw [e, e2, kt_ls_e hc] at h
    exact absurd rfl h
/-! the pure pictures -/
def kt_mi (p : Nat) : Nat := cond (Nat.beq p 16384) 16384 (Nat.xor p (Nat.div p 128))
def kt_ng (p : Nat) : Nat := cond (Nat.beq p 16384) 16384 (Nat.add (Nat.mul 128 (Nat.div p 128)) (Nat.xor (Nat.div p 128) (Nat.mod p 128)))
def kt_sq (p : Nat) : Nat := cond (Nat.beq p 16384) 16384 (Nat.add (Nat.mul 128 (kt_m (Nat.div p 128) (Nat.div p 128))) (kt_m (Nat.mod p 128) (Nat.mod p 128)))
def kt_dbl (c x y : Nat) : Nat := Nat.xor x (kt_m y (kt_inv x))
def kt_dbs (c l : Nat) : Nat := Nat.xor (Nat.xor (kt_m l l) l) c
def kt_dbt (x l s : Nat) : Nat := Nat.add (Nat.mul 128 s) (Nat.xor (kt_m x x) (kt_m (Nat.xor l 1) s))
def kt_db2 (c x l : Nat) : Nat := kt_dbt x l (kt_dbs c l)
def kt_db (c x y : Nat) : Nat := kt_db2 c x (kt_dbl c x y)
def kt_ads (c x u l : Nat) : Nat := Nat.xor (Nat.xor (Nat.xor (Nat.xor (kt_m l l) l) x) u) c
def kt_adt (x y l s : Nat) : Nat := Nat.add (Nat.mul 128 s) (Nat.xor (Nat.xor (kt_m l (Nat.xor x s)) s) y)
def kt_ad2 (c x y u l : Nat) : Nat := kt_adt x y l (kt_ads c x u l)
def kt_ad (c x y u v : Nat) : Nat := kt_ad2 c x y u (kt_m (Nat.xor y v) (kt_inv (Nat.xor x u)))
def kt_tw (c p : Nat) : Nat := cond (Nat.beq p 16384) 16384 (cond (Nat.beq (Nat.div p 128) 0) 16384 (kt_db c (Nat.div p 128) (Nat.mod p 128)))
def kt_sX (c p q : Nat) : Nat := cond (Nat.beq p 16384) q (cond (Nat.beq q 16384) p (cond (Nat.beq (Nat.div p 128) (Nat.div q 128)) (cond (Nat.beq p q) (kt_tw c p) 16384) (kt_ad c (Nat.div p 128) (Nat.mod p 128) (Nat.div q 128) (Nat.mod q 128))))
def kt_sY (c p q : Nat) : Nat := cond (Nat.beq p 16384) q (cond (Nat.beq q 16384) p (cond (Nat.beq q (kt_ng p)) 16384 (cond (Nat.beq (Nat.div p 128) (Nat.div q 128)) (kt_db c (Nat.div p 128) (Nat.mod p 128)) (kt_ad c (Nat.div p 128) (Nat.mod p 128) (Nat.div q 128) (Nat.mod q 128)))))
theorem kt_oneC : kt_all (fun c => kt_all (fun i => Nat.beq (kt_mi (kt_pt c i)) (kt_pt c (Nat.mod (Nat.sub (kt_n c) i) (kt_n c))) && Nat.beq (kt_ng (kt_pt c i)) (kt_pt c (Nat.mod (Nat.sub (kt_n c) i) (kt_n c))) && Nat.beq (kt_sq (kt_pt c i)) (kt_pt c (Nat.mod (Nat.mul (kt_lam c) i) (kt_n c)))) (kt_n c)) 2 = true := by decide +kernel
theorem kt_one {c i : Nat} (hc : c < 2) (hi : i < kt_n c) : kt_mi (kt_pt c i) = kt_pt c ((kt_n c - i) % kt_n c) ∧ kt_ng (kt_pt c i) = kt_pt c ((kt_n c - i) % kt_n c) ∧ kt_sq (kt_pt c i) = kt_pt c ((kt_lam c * i) % kt_n c) := by
  have a := kt_allc (p := fun c i => Nat.beq (kt_mi (kt_pt c i)) (kt_pt c (Nat.mod (Nat.sub (kt_n c) i) (kt_n c))) && Nat.beq (kt_ng (kt_pt c i)) (kt_pt c (Nat.mod (Nat.sub (kt_n c) i) (kt_n c))) && Nat.beq (kt_sq (kt_pt c i)) (kt_pt c (Nat.mod (Nat.mul (kt_lam c) i) (kt_n c)))) (n := kt_n) kt_oneC hc hi
  rw [Bool.and_eq_true, Bool.and_eq_true] at a
  exact ⟨Nat.eq_of_beq_eq_true a.1.1, Nat.eq_of_beq_eq_true a.1.2, Nat.eq_of_beq_eq_true a.2⟩
end
section
/-! the kernel checks of both sums over all pairs of points -/
theorem kt_sXC0 : kt_all (fun i => kt_all (fun j => Nat.beq (kt_sX 0 (kt_pt 0 i) (kt_pt 0 j)) (kt_pt 0 (Nat.mod (Nat.add i j) 116))) 116) 116 = true := by decide +kernel
theorem kt_sXC1 : kt_all (fun i => kt_all (fun j => Nat.beq (kt_sX 1 (kt_pt 1 i) (kt_pt 1 j)) (kt_pt 1 (Nat.mod (Nat.add i j) 142))) 142) 142 = true := by decide +kernel
theorem kt_sYC0 : kt_all (fun i => kt_all (fun j => Nat.beq (kt_sY 0 (kt_pt 0 i) (kt_pt 0 j)) (kt_pt 0 (Nat.mod (Nat.add i j) 116))) 116) 116 = true := by decide +kernel
theorem kt_sYC1 : kt_all (fun i => kt_all (fun j => Nat.beq (kt_sY 1 (kt_pt 1 i) (kt_pt 1 j)) (kt_pt 1 (Nat.mod (Nat.add i j) 142))) 142) 142 = true := by decide +kernel
theorem kt_sXT {c i j : Nat} (hc : c < 2) (hi : i < kt_n c) (hj : j < kt_n c) : kt_sX c (kt_pt c i) (kt_pt c j) = kt_pt c ((i + j) % kt_n c) :=
  kt_c2 (P := fun c => i < kt_n c → j < kt_n c → kt_sX c (kt_pt c i) (kt_pt c j) = kt_pt c ((i + j) % kt_n c))
    (fun hi hj => Nat.eq_of_beq_eq_true (kt_all2 (p := fun i j => Nat.beq (kt_sX 0 (kt_pt 0 i) (kt_pt 0 j)) (kt_pt 0 (Nat.mod (Nat.add i j) 116))) kt_sXC0 i hi j hj))
    (fun hi hj => Nat.eq_of_beq_eq_true (kt_all2 (p := fun i j => Nat.beq (kt_sX 1 (kt_pt 1 i) (kt_pt 1 j)) (kt_pt 1 (Nat.mod (Nat.add i j) 142))) kt_sXC1 i hi j hj)) hc hi hj
theorem kt_sYT {c i j : Nat} (hc : c < 2) (hi : i < kt_n c) (hj : j < kt_n c) : kt_sY c (kt_pt c i) (kt_pt c j) = kt_pt c ((i + j) % kt_n c) :=
  kt_c2 (P := fun c => i < kt_n c → j < kt_n c → kt_sY c (kt_pt c i) (kt_pt c j) = kt_pt c ((i + j) % kt_n c))
    (fun hi hj => Nat.eq_of_beq_eq_true (kt_all2 (p := fun i j => Nat.beq (kt_sY 0 (kt_pt 0 i) (kt_pt 0 j)) (kt_pt 0 (Nat.mod (Nat.add i j) 116))) kt_sYC0 i hi j hj))
    (fun hi hj => Nat.eq_of_beq_eq_true (kt_all2 (p := fun i j => Nat.beq (kt_sY 1 (kt_pt 1 i) (kt_pt 1 j)) (kt_pt 1 (Nat.mod (Nat.add i j) 142))) kt_sYC1 i hi j hj)) hc hi hj
end
section
/-! walks of the points' methods, both sides, against the pure pictures and then the table -/
theorem kt_one31 {x : Nat} (h : x < 128) : x < 2 ^ 31 := by omega
theorem kt_c128 {c : Nat} (hc : c < 2) : c < 128 := by omega
theorem kt_sel1 (x y : Nat) : kt_sel 1 x y = x := rfl
theorem kt_selN {c x y : Nat} (h : c ≠ 1) : kt_sel c x y = y := by
  unfold kt_sel
  cases z : Nat.beq c 1 with
  | false => rfl
  | true => exact absurd (Nat.eq_of_beq_eq_true z) h
theorem kt_beqF {a b : Nat} (h : a ≠ b) : Nat.beq a b = false := by
  cases z : Nat.beq a b with
  | false => rfl
  | true => exact absurd (Nat.eq_of_beq_eq_true z) h
theorem kt_beqT {a b : Nat} (h : a = b) : Nat.beq a b = true := by rw [h]; exact Nat.beq_refl b
theorem kt_cT {α : Type} {a b : Nat} {x y : α} (h : a = b) : cond (Nat.beq a b) x y = x := by rw [kt_beqT h]; rfl
theorem kt_cF {α : Type} {a b : Nat} {x y : α} (h : a ≠ b) : cond (Nat.beq a b) x y = y := by rw [kt_beqF h]; rfl
theorem kt_tw_e {c p : Nat} : kt_tw c p = cond (Nat.beq p 16384) 16384 (cond (Nat.beq (p / 128) 0) 16384 (kt_db c (p / 128) (p % 128))) := rfl
theorem kt_sX_e {c p q : Nat} : kt_sX c p q = cond (Nat.beq p 16384) q (cond (Nat.beq q 16384) p (cond (Nat.beq (p / 128) (q / 128)) (cond (Nat.beq p q) (kt_tw c p) 16384) (kt_ad c (p / 128) (p % 128) (q / 128) (q % 128)))) := rfl
theorem kt_sY_e {c p q : Nat} : kt_sY c p q = cond (Nat.beq p 16384) q (cond (Nat.beq q 16384) p (cond (Nat.beq q (kt_ng p)) 16384 (cond (Nat.beq (p / 128) (q / 128)) (kt_db c (p / 128) (p % 128)) (kt_ad c (p / 128) (p % 128) (q / 128) (q % 128))))) := rfl
def kt_onA (x y : Nat) : Nat := Nat.xor (kt_m y y) (kt_m x y)
def kt_onB (x z : Nat) : Nat := Nat.xor (Nat.xor (kt_m (kt_m x x) x) z) 1
theorem kt_onA_lt (x y : Nat) : kt_onA x y < 128 := kt_xl (kt_m_lt _ _) (kt_m_lt _ _)
theorem kt_onB_lt {x z : Nat} (hz : z < 128) : kt_onB x z < 128 := kt_xl (kt_xl (kt_m_lt _ _) hz) (by decide)
theorem kt_on1 {x y : Nat} : kt_on 1 x y = Nat.beq (kt_onA x y) (kt_onB x (kt_m x x)) := rfl
theorem kt_on0 {c x y : Nat} (h : c ≠ 1) : kt_on c x y = Nat.beq (kt_onA x y) (kt_onB x 0) := by
  show Nat.beq (kt_onA x y) (kt_onB x (kt_sel c (kt_m x x) 0)) = _
  rw [kt_selN h]
section
variable {post : Int32 → Prop} {fc fn fm fa fb pa pb dg : Int32} {ad ai al : Nat → Int32}
theorem kt_x59 {x y z : Nat} (hz : z < 128) (h1 : kt_onA x y = kt_onB x z → post 1) (h0 : kt_onA x y ≠ kt_onB x z → post 0) : wX_onCurve_59 post (nI (kt_m y y)) (nI (kt_m x y)) (nI z) (nI (kt_m (kt_m x x) x)) fc fn fm fa fb pa pb dg ad := by
  unfold wX_onCurve_59
  have e : (nI (kt_m (kt_m x x) x) ^^^ nI z) ^^^ 1 = nI (kt_onB x z) := by rw [nx_xor]; exact nx_xor _ 1
  refine nm_r e ?_
  exact pk_eq (kt_onA x y) (kt_onB x z) h1 h0 (nx_xor _ _) rfl (kt_one31 (kt_onA_lt _ _)) (kt_one31 (kt_onB_lt hz))
theorem kt_xon {c p : Nat} (hc : c < 2) (hp : p < 16384) (h1 : kt_on c (p / 128) (p % 128) = true → post 1) (h0 : kt_on c (p / 128) (p % 128) = false → post 0) : wpX_onCurve post (nI c, fn, fm, fa, fb, pa, pb, dg, ad) (nI p) := by
  have hx : p / 128 < 128 := by omega
  have hy : p % 128 < 128 := by omega
  unfold wpX_onCurve
  dsimp only
  refine nm_r (kt_shr7 (by omega)) (nm_r (kt_and7 (by omega)) ?_)
  refine kt_xmul hy hy (kt_xmul hx hy (kt_xmul hx hx (kt_xmul (kt_m_lt _ _) hx ?_)))
  refine pk_eq c 1 (fun e => ?_) (fun e => ?_)
  · subst e
    rw [kt_on1] at h1 h0
    exact kt_x59 (kt_m_lt _ _) (fun e => h1 (kt_beqT e)) (fun e => h0 (kt_beqF e))
  · rw [kt_on0 e] at h1 h0
    exact kt_x59 (z := 0) (by decide) (fun e => h1 (kt_beqT e)) (fun e => h0 (kt_beqF e))
theorem kt_y43 {x y z : Nat} (hz : z < 128) (h1 : kt_onA x y = kt_onB x z → post 1) (h0 : kt_onA x y ≠ kt_onB x z → post 0) : wY_isOn_43 post (nI z) (nI (kt_m (kt_m x x) x)) (nI (kt_m y y) ^^^ nI (kt_m x y)) fa fn ai al := by
  have e : (nI (kt_m (kt_m x x) x) ^^^ nI z) ^^^ 1 = nI (kt_onB x z) := by rw [nx_xor]; exact nx_xor _ 1
  exact pk_eq (kt_onA x y) (kt_onB x z) h1 h0 (nx_xor _ _) e (kt_one31 (kt_onA_lt _ _)) (kt_one31 (kt_onB_lt hz))
theorem kt_yon {c x y : Nat} (hc : c < 2) (hx : x < 128) (hy : y < 128) (h1 : kt_on c x y = true → post 1) (h0 : kt_on c x y = false → post 0) : wpY_isOn post (nI c, fn, ai, al) (nI x) (nI y) := by
  unfold wpY_isOn
  dsimp only
  refine kt_yprod hx hx (kt_yprod (kt_m_lt _ _) hx (kt_yprod hy hy (kt_yprod hx hy ?_)))
  refine pk_eq c 1 (fun e => ?_) (fun e => ?_)
  · subst e
    rw [kt_on1] at h1 h0
    exact kt_y43 (kt_m_lt _ _) (fun e => h1 (kt_beqT e)) (fun e => h0 (kt_beqF e))
  · rw [kt_on0 e] at h1 h0
    exact kt_y43 (z := 0) (by decide) (fun e => h1 (kt_beqT e)) (fun e => h0 (kt_beqF e))
/-- a point of curve c -/
def kt_P (c : Nat) (p : Int32) : Prop := ∃ i, i < kt_n c ∧ p = nI (kt_pt c i)
theorem kt_PO {c : Nat} (hc : c < 2) : kt_P c 16384 := ⟨0, by have := kt_n_lt c; omega, by rw [kt_pt_0 hc]; rfl⟩
theorem kt_P_on {c p : Nat} (hc : c < 2) (hp : p < 16384) : kt_on c (p / 128) (p % 128) = true ↔ kt_P c (nI p) := by
  constructor
  · intro h
    obtain ⟨i, hi, e⟩ := kt_on_pt hc hp h
    exact ⟨i, hi, by rw [e]⟩
  · rintro ⟨i, hi, e⟩
    have h16 := kt_pt_le hc hi
    have e2 := (nI_eq (by omega) (by omega)).mp e
    rw [e2]
    exact (kt_pt_on hc hi (by omega)).2
theorem kt_P_range {c : Nat} {p : Int32} (hc : c < 2) (h : p < 0 ∨ 16384 < p) : ¬ kt_P c p := by
  rintro ⟨i, hi, rfl⟩
  have h16 := kt_pt_le hc hi
  rcases h with h | h
  · exact nI_pos (by omega) h
  · exact nI_nlt (b := kt_pt c i) (a := 16384) h16 (by decide) h
theorem kt_xbad {c : Nat} {p : Int32} (hc : c < 2) (h1 : kt_P c p → post 0) (h0 : ¬ kt_P c p → post 1) : wpX_bad post (nI c, fn, fm, fa, fb, pa, pb, dg, ad) p := by
  unfold wpX_bad
  dsimp only
  refine br_c (fun e => h1 (by rw [e]; exact kt_PO hc)) (fun e => br_c (fun z => h0 (kt_P_range hc (Or.inl z))) (fun z => br_c (fun w => h0 (kt_P_range hc (Or.inr w))) (fun w => ?_)))
  obtain ⟨j, hj, rfl⟩ := nI_of z
  have hw : ¬ 16384 < j := fun y => w (nI_lt (a := 16384) y hj)
  have he : j ≠ 16384 := fun y => e (by rw [y]; rfl)
  refine kt_xon hc (by omega) (fun y => ?_) (fun y => ?_)
  · exact br_f (by decide) (h1 ((kt_P_on hc (by omega)).mp y))
  · refine br_t rfl (h0 (fun q => ?_))
    rw [(kt_P_on hc (by omega)).mpr q] at y
    exact kt_ff y.symm
theorem kt_yisP {c : Nat} {p : Int32} (hc : c < 2) (h1 : kt_P c p → post 1) (h0 : ¬ kt_P c p → post 0) : wpY_isPoint post (nI c, fn, ai, al) p := by
  unfold wpY_isPoint
  dsimp only
  refine br_c (fun e => h1 (by rw [e]; exact kt_PO hc)) (fun e => br_c (fun z => h0 (kt_P_range hc (Or.inl z))) (fun z => br_c (fun w => h0 (kt_P_range hc (Or.inr ?_))) (fun w => And.intro kt_n128 (And.intro kt_n128 ?_))))
  · obtain ⟨j, hj, rfl⟩ := nI_of z
    have he : j ≠ 16384 := fun y => e (by rw [y]; rfl)
    have hw := (nI_leI (a := 16384) (by decide) hj).mp w
    exact nI_lt (a := 16384) (by omega) hj
  · obtain ⟨j, hj, rfl⟩ := nI_of z
    have hw : ¬ 16384 ≤ j := fun y => w (nI_le (a := 16384) y hj)
    rw [kt_r128 (by omega), kt_d128 (by omega)]
    refine kt_yon hc (by omega) (by omega) (fun y => ?_) (fun y => ?_)
    · exact br_f (by decide) (h1 ((kt_P_on hc (by omega)).mp y))
    · refine br_t rfl (h0 (fun q => ?_))
      rw [(kt_P_on hc (by omega)).mpr q] at y
      exact kt_ff y.symm
theorem kt_xmi {u : SX} {p : Nat} (hp : p ≤ 16384) (h : post (nI (kt_mi p))) : wpX_minus post u (nI p) := by
  obtain ⟨fc, fn, fm, fa, fb, pa, pb, dg, ad⟩ := u
  unfold wpX_minus
  dsimp only
  refine pk_eq p 16384 (fun e => ?_) (fun e => ?_)
  · rw [kt_mi, kt_cT e] at h; exact h
  · rw [kt_mi, kt_cF e] at h
    rw [kt_shr7 hp, nx_xor]
    exact h
theorem kt_yng {u : SY} {p : Nat} (hp : p ≤ 16384) (h : post (nI (kt_ng p))) : wpY_negative post u (nI p) := by
  obtain ⟨fa, fn, ai, al⟩ := u
  unfold wpY_negative
  dsimp only
  refine pk_eq p 16384 (fun e => ?_) (fun e => And.intro kt_n128 (And.intro kt_n128 (And.intro kt_n128 ?_)))
  · rw [kt_ng, kt_cT e] at h; exact h
  · rw [kt_ng, kt_cF e] at h
    rw [kt_r128 hp, kt_d128 hp, nx_xor, kt_pk128]
    exact h
theorem kt_xsq {u : SX} {p : Nat} (hp : p ≤ 16384) (h : post (nI (kt_sq p))) : wpX_squared post u (nI p) := by
  obtain ⟨fc, fn, fm, fa, fb, pa, pb, dg, ad⟩ := u
  unfold wpX_squared
  dsimp only
  refine pk_eq p 16384 (fun e => ?_) (fun e => ?_)
  · rw [kt_sq, kt_cT e] at h; exact h
  · rw [kt_sq, kt_cF e] at h
    rw [kt_shr7 hp, kt_and7 hp]
    refine kt_xmul (by omega) (by omega) (kt_xmul (by omega) (by omega) ?_)
    rw [kt_pack (kt_m_lt _ _) (kt_m_lt _ _)]
    exact h
theorem kt_xtw {c p : Nat} (hc : c < 2) (hp : p ≤ 16384) (h : post (nI (kt_tw c p))) : wpX_twice post (nI c, fn, fm, fa, fb, pa, pb, dg, ad) (nI p) := by
  unfold wpX_twice
  dsimp only
  refine nm_r (kt_shr7 hp) (pk_eq p 16384 (fun e => ?_) (fun e => pk_eq (p / 128) 0 (fun e2 => ?_) (fun e2 => ?_)))
  · rw [kt_tw_e, kt_cT e] at h; exact h
  · rw [kt_tw_e, kt_cF e, kt_cT e2] at h; exact h
  · rw [kt_tw_e, kt_cF e, kt_cF e2] at h
    have hx : p / 128 < 128 := by omega
    have hy : p % 128 < 128 := by omega
    rw [kt_and7 hp]
    have hl : kt_dbl c (p / 128) (p % 128) < 128 := kt_xl hx (kt_m_lt _ _)
    have hs : kt_dbs c (kt_dbl c (p / 128) (p % 128)) < 128 := kt_xl (kt_xl (kt_m_lt _ _) hl) (kt_c128 hc)
    refine kt_xquot hy hx (nm_r (e' := nI (kt_dbl c (p / 128) (p % 128))) (nx_xor _ _) (kt_xmul hl hl (nm_r (e' := nI (kt_dbs c (kt_dbl c (p / 128) (p % 128)))) ?_ (kt_xmul hx hx ?_))))
    · rw [nx_xor, nx_xor]; rfl
    · rw [show nI (kt_dbl c (p / 128) (p % 128)) ^^^ 1 = nI (Nat.xor (kt_dbl c (p / 128) (p % 128)) 1) from nx_xor _ 1]
      refine kt_xmul (kt_xl hl (by decide)) hs (nm_r (nx_xor _ _) ?_)
      rw [kt_pack hs (kt_xl (kt_m_lt _ _) (kt_m_lt _ _))]
      exact h
theorem kt_xsum {c p q : Nat} (hc : c < 2) (hp : p ≤ 16384) (hq : q ≤ 16384) (h : post (nI (kt_sX c p q))) : wpX_sum post (nI c, fn, fm, fa, fb, pa, pb, dg, ad) (nI p) (nI q) := by
  unfold wpX_sum
  dsimp only
  refine pk_eq p 16384 (fun e => ?_) (fun e => pk_eq q 16384 (fun e2 => ?_) (fun e2 => nm_r (kt_shr7 hp) (nm_r (kt_shr7 hq) (pk_eq (p / 128) (q / 128) (fun e3 => pk_eq p q (fun e4 => ?_) (fun e4 => ?_)) (fun e3 => ?_)))))
  · rw [kt_sX_e, kt_cT e] at h; exact h
  · rw [kt_sX_e, kt_cF e, kt_cT e2] at h; exact h
  · rw [kt_sX_e, kt_cF e, kt_cF e2, kt_cT e3, kt_cT e4] at h
    exact kt_xtw hc hp h
  · rw [kt_sX_e, kt_cF e, kt_cF e2, kt_cT e3, kt_cF e4] at h; exact h
  · rw [kt_sX_e, kt_cF e, kt_cF e2, kt_cF e3] at h
    have hx : p / 128 < 128 := by omega
    have hy : p % 128 < 128 := by omega
    have hu : q / 128 < 128 := by omega
    have hv : q % 128 < 128 := by omega
    have e5 : (nI p ^^^ nI q) &&& 127 = nI (Nat.xor (p % 128) (q % 128)) := by
      have h6 : p ^^^ q < 2 ^ 15 := Nat.xor_lt_two_pow (by omega) (by omega)
      rw [nx_xor, pk_andN (n := p ^^^ q) (by omega) 7 (by decide), Nat.xor_mod_two_pow]
      rfl
    have e6 : nI (p / 128) ^^^ nI (q / 128) = nI (Nat.xor (p / 128) (q / 128)) := nx_xor _ _
    rw [e5, e6, kt_and7 hp]
    have hl : kt_m (Nat.xor (p % 128) (q % 128)) (kt_inv (Nat.xor (p / 128) (q / 128))) < 128 := kt_m_lt _ _
    have hh : post (nI (kt_ad2 c (p / 128) (p % 128) (q / 128) (kt_m (Nat.xor (p % 128) (q % 128)) (kt_inv (Nat.xor (p / 128) (q / 128)))))) := h
    refine kt_xquot (a := Nat.xor (p % 128) (q % 128)) (b := Nat.xor (p / 128) (q / 128)) (kt_xl hy hv) (kt_xl hx hu) ?_
    generalize kt_m (Nat.xor (p % 128) (q % 128)) (kt_inv (Nat.xor (p / 128) (q / 128))) = l at hl hh ⊢
    have hs : kt_ads c (p / 128) (q / 128) l < 128 := kt_xl (kt_xl (kt_xl (kt_xl (kt_m_lt _ _) hl) hx) hu) (kt_c128 hc)
    refine kt_xmul hl hl (nm_r (e' := nI (kt_ads c (p / 128) (q / 128) l)) (by rw [nx_xor, nx_xor, nx_xor, nx_xor]; rfl) ?_)
    rw [show nI (p / 128) ^^^ nI (kt_ads c (p / 128) (q / 128) l) = nI (Nat.xor (p / 128) (kt_ads c (p / 128) (q / 128) l)) from nx_xor _ _]
    refine kt_xmul hl (kt_xl hx hs) (nm_r (e' := nI (Nat.xor (Nat.xor (kt_m l (Nat.xor (p / 128) (kt_ads c (p / 128) (q / 128) l))) (kt_ads c (p / 128) (q / 128) l)) (p % 128))) (by rw [nx_xor, nx_xor]; rfl) ?_)
    rw [kt_pack (t := Nat.xor (Nat.xor (kt_m l (Nat.xor (p / 128) (kt_ads c (p / 128) (q / 128) l))) (kt_ads c (p / 128) (q / 128) l)) (p % 128)) hs (kt_xl (kt_xl (kt_m_lt _ _) hs) hy)]
    exact hh
theorem kt_ysum {c p q : Nat} (hc : c < 2) (hi : ∀ j, j < 128 → ai j = nI (kt_inv j)) (hp : p ≤ 16384) (hq : q ≤ 16384) (h : post (nI (kt_sY c p q))) : wpY_sum post (nI c, fn, ai, al) (nI p) (nI q) := by
  have hn : kt_ng p < 2 ^ 31 := by
    unfold kt_ng
    cases Nat.beq p 16384 with
    | true => exact (show 16384 < 2 ^ 31 by decide)
    | false =>
      have h6 : (p / 128) ^^^ (p % 128) < 2 ^ 8 := Nat.xor_lt_two_pow (by omega) (by omega)
      show 128 * (p / 128) + ((p / 128) ^^^ (p % 128)) < 2 ^ 31
      omega
  unfold wpY_sum
  dsimp only
  refine pk_eq p 16384 (fun e => ?_) (fun e => pk_eq q 16384 (fun e2 => ?_) (fun e2 => kt_yng hp (pk_eq q (kt_ng p) (fun e3 => ?_) (fun e3 => And.intro kt_n128 (nm_r (kt_d128 hp) (And.intro kt_n128 (nm_r (kt_r128 hp) (And.intro kt_n128 (nm_r (kt_d128 hq) (And.intro kt_n128 (nm_r (kt_r128 hq) (pk_eq (p / 128) (q / 128) (fun e4 => ?_) (fun e4 => ?_)))))))))) rfl rfl (by omega) hn)))
  · rw [kt_sY_e, kt_cT e] at h
    exact br_t (show nI p = 16384 by rw [e]; rfl) h
  · rw [kt_sY_e, kt_cF e, kt_cT e2] at h
    refine br_f (fun y => e ?_) h
    exact (nI_eq (b := 16384) (by omega) (by decide)).mp y
  · rw [kt_sY_e, kt_cF e, kt_cF e2, kt_cT e3] at h; exact h
  · rw [kt_sY_e, kt_cF e, kt_cF e2, kt_cF e3, kt_cT e4] at h
    have hx : p / 128 < 128 := by omega
    have hy : p % 128 < 128 := by omega
    have hl : kt_dbl c (p / 128) (p % 128) < 128 := kt_xl hx (kt_m_lt _ _)
    have hs : kt_dbs c (kt_dbl c (p / 128) (p % 128)) < 128 := kt_xl (kt_xl (kt_m_lt _ _) hl) (kt_c128 hc)
    refine kt_yquot hy hx hi (nm_r (e' := nI (kt_dbl c (p / 128) (p % 128))) (nx_xor _ _) (kt_yprod hl hl (nm_r (e' := nI (kt_dbs c (kt_dbl c (p / 128) (p % 128)))) ?_ (kt_yprod hx hx ?_))))
    · rw [nx_xor, nx_xor]; rfl
    · rw [show nI (kt_dbl c (p / 128) (p % 128)) ^^^ 1 = nI (Nat.xor (kt_dbl c (p / 128) (p % 128)) 1) from nx_xor _ 1]
      refine kt_yprod (kt_xl hl (by decide)) hs ?_
      rw [nx_xor, kt_pk128]
      exact h
  · rw [kt_sY_e, kt_cF e, kt_cF e2, kt_cF e3, kt_cF e4] at h
    have hx : p / 128 < 128 := by omega
    have hy : p % 128 < 128 := by omega
    have hu : q / 128 < 128 := by omega
    have hv : q % 128 < 128 := by omega
    have e5 : nI (p % 128) ^^^ nI (q % 128) = nI (Nat.xor (p % 128) (q % 128)) := nx_xor _ _
    have e6 : nI (p / 128) ^^^ nI (q / 128) = nI (Nat.xor (p / 128) (q / 128)) := nx_xor _ _
    rw [e5, e6]
    have hl : kt_m (Nat.xor (p % 128) (q % 128)) (kt_inv (Nat.xor (p / 128) (q / 128))) < 128 := kt_m_lt _ _
    have hh : post (nI (kt_ad2 c (p / 128) (p % 128) (q / 128) (kt_m (Nat.xor (p % 128) (q % 128)) (kt_inv (Nat.xor (p / 128) (q / 128)))))) := h
    refine kt_yquot (a := Nat.xor (p % 128) (q % 128)) (b := Nat.xor (p / 128) (q / 128)) (kt_xl hy hv) (kt_xl hx hu) hi ?_
    generalize kt_m (Nat.xor (p % 128) (q % 128)) (kt_inv (Nat.xor (p / 128) (q / 128))) = l at hl hh ⊢
    have hs : kt_ads c (p / 128) (q / 128) l < 128 := kt_xl (kt_xl (kt_xl (kt_xl (kt_m_lt _ _) hl) hx) hu) (kt_c128 hc)
    refine kt_yprod hl hl (nm_r (e' := nI (kt_ads c (p / 128) (q / 128) l)) (by rw [nx_xor, nx_xor, nx_xor, nx_xor]; rfl) ?_)
    rw [show nI (p / 128) ^^^ nI (kt_ads c (p / 128) (q / 128) l) = nI (Nat.xor (p / 128) (kt_ads c (p / 128) (q / 128) l)) from nx_xor _ _]
    refine kt_yprod hl (kt_xl hx hs) ?_
    rw [nx_xor, nx_xor, kt_pk128]
    exact hh
/-! by the table -/
theorem kt_xmiT {u : SX} {c i : Nat} (hc : c < 2) (hi : i < kt_n c) (h : post (nI (kt_pt c ((kt_n c - i) % kt_n c)))) : wpX_minus post u (nI (kt_pt c i)) :=
  kt_xmi (kt_pt_le hc hi) (by rw [(kt_one hc hi).1]; exact h)
theorem kt_yngT {u : SY} {c i : Nat} (hc : c < 2) (hi : i < kt_n c) (h : post (nI (kt_pt c ((kt_n c - i) % kt_n c)))) : wpY_negative post u (nI (kt_pt c i)) :=
  kt_yng (kt_pt_le hc hi) (by rw [(kt_one hc hi).2.1]; exact h)
theorem kt_xsqT {u : SX} {c i : Nat} (hc : c < 2) (hi : i < kt_n c) (h : post (nI (kt_pt c ((kt_lam c * i) % kt_n c)))) : wpX_squared post u (nI (kt_pt c i)) :=
  kt_xsq (kt_pt_le hc hi) (by rw [(kt_one hc hi).2.2]; exact h)
theorem kt_xsumT {c i j : Nat} (hc : c < 2) (hi : i < kt_n c) (hj : j < kt_n c) (h : post (nI (kt_pt c ((i + j) % kt_n c)))) : wpX_sum post (nI c, fn, fm, fa, fb, pa, pb, dg, ad) (nI (kt_pt c i)) (nI (kt_pt c j)) :=
  kt_xsum hc (kt_pt_le hc hi) (kt_pt_le hc hj) (by rw [kt_sXT hc hi hj]; exact h)
theorem kt_ysumT {c i j : Nat} (hc : c < 2) (ha : ∀ j, j < 128 → ai j = nI (kt_inv j)) (hi : i < kt_n c) (hj : j < kt_n c) (h : post (nI (kt_pt c ((i + j) % kt_n c)))) : wpY_sum post (nI c, fn, ai, al) (nI (kt_pt c i)) (nI (kt_pt c j)) :=
  kt_ysum hc ha (kt_pt_le hc hi) (kt_pt_le hc hj) (by rw [kt_sYT hc hi hj]; exact h)
end
end
section
/-! X's halfBy, halfOf, half, halves, firstAt, next: pure pictures over Int32 answers -/
def kt_hbx (p l : Nat) : Nat := kt_sqr (Nat.xor (Nat.mod p 128) (kt_m (Nat.xor l 1) (Nat.div p 128)))
def kt_hby (x l : Nat) : Nat := kt_m (Nat.xor l x) x
def kt_hb2 (c x y : Nat) : Int32 := cond (kt_on c x y) (nI (Nat.add (Nat.mul 128 x) y)) (-4)
def kt_hb1 (c x l : Nat) : Int32 := cond (Nat.beq x 0) (-4) (kt_hb2 c x (kt_hby x l))
def kt_hb (c p l : Nat) : Int32 := kt_hb1 c (kt_hbx p l) l
def kt_ho (c p w : Nat) : Int32 := cond (Nat.beq p 16384) (cond (Nat.beq w 0) 1 16384) (cond (Nat.beq (kt_tr (Nat.xor (Nat.div p 128) c)) 0) (kt_hb c p (Nat.xor (kt_rt (Nat.xor (Nat.div p 128) c)) w)) (-4))
def kt_h2 (a b : Int32) : Int32 := if 0 ≤ a then (if b < 0 then a else if b ≤ a then b else a) else b
def kt_hc (a b : Int32) : Int32 := if 0 ≤ b then (if 0 ≤ a then 1 + 1 else 0 + 1) else (if 0 ≤ a then 1 else 0)
section
variable {post : Int32 → Prop} {fc fn fm fa fb pa pb dg : Int32} {ad ai al : Nat → Int32}
theorem kt_xhb {c p l : Nat} (hc : c < 2) (hp : p < 16384) (hl : l < 128) (h : post (kt_hb c p l)) : wpX_halfBy post (nI c, fn, fm, fa, fb, pa, pb, dg, ad) (nI p) (nI l) := by
  have hx : p / 128 < 128 := by omega
  have hy : p % 128 < 128 := by omega
  unfold wpX_halfBy
  dsimp only
  refine nm_r (kt_shr7 (by omega)) (nm_r (kt_and7 (by omega)) ?_)
  rw [show nI l ^^^ 1 = nI (Nat.xor l 1) from nx_xor l 1]
  have hz : Nat.xor (p % 128) (kt_m (Nat.xor l 1) (p / 128)) < 128 := kt_xl hy (kt_m_lt _ _)
  refine kt_xmul (kt_xl hl (by decide)) hx (nm_r (e' := nI (Nat.xor (p % 128) (kt_m (Nat.xor l 1) (p / 128)))) (nx_xor _ _) (kt_xsqr hz ?_))
  have hk : kt_hbx p l < 128 := (kt_trL hz).2.2
  have hh : post (kt_hb1 c (kt_hbx p l) l) := h
  change (nI (kt_hbx p l) = 0 → _) ∧ (¬ nI (kt_hbx p l) = 0 → _)
  change ((nI (kt_hbx p l) = 0 → post (-4)) ∧ (¬ nI (kt_hbx p l) = 0 → wpX_mul (fun r_25 => ∀ x8_35 : Int32, x8_35 = (nI (kt_hbx p l) <<< ((7 : Int32) &&& 31)) ||| r_25 → wpX_onCurve (fun r_36 => (r_36 = 0 → post (-4)) ∧ (¬ r_36 = 0 → post x8_35)) (nI c, fn, fm, fa, fb, pa, pb, dg, ad) x8_35) (nI c, fn, fm, fa, fb, pa, pb, dg, ad) (nI l ^^^ nI (kt_hbx p l)) (nI (kt_hbx p l))))
  generalize kt_hbx p l = x at hk hh ⊢
  refine pk_eq x 0 (fun e => ?_) (fun e => ?_)
  · rw [kt_hb1, kt_cT e] at hh; exact hh
  · rw [kt_hb1, kt_cF e] at hh
    rw [show nI l ^^^ nI x = nI (Nat.xor l x) from nx_xor l x]
    have hq : kt_hby x l < 128 := kt_m_lt _ _
    refine kt_xmul (kt_xl hl hk) hk (nm_r (e' := nI (128 * x + kt_hby x l)) (kt_pack hk hq) ?_)
    have e1 : (128 * x + kt_hby x l) / 128 = x := by omega
    have e2 : (128 * x + kt_hby x l) % 128 = kt_hby x l := by omega
    refine kt_xon hc (by omega) (fun z => br_f (by decide) ?_) (fun z => br_t rfl ?_)
    · rw [e1, e2] at z
      rw [kt_hb2, z] at hh; exact hh
    · rw [e1, e2] at z
      rw [kt_hb2, z] at hh; exact hh
theorem kt_xho {c p w : Nat} (hc : c < 2) (hw : w < 2) (hp : p ≤ 16384) (h : post (kt_ho c p w)) : wpX_halfOf post (nI c, fn, fm, fa, fb, pa, pb, dg, ad) (nI p) (nI w) := by
  unfold wpX_halfOf
  dsimp only
  refine pk_eq p 16384 (fun e => pk_eq w 0 (fun e2 => ?_) (fun e2 => ?_)) (fun e => nm_r (kt_shr7 hp) ?_)
  · rw [kt_ho, kt_cT e, kt_cT e2] at h; exact h
  · rw [kt_ho, kt_cT e, kt_cF e2] at h; exact h
  · rw [kt_ho, kt_cF e] at h
    have hx : p / 128 < 128 := by omega
    have hr : Nat.xor (p / 128) c < 128 := kt_xl hx (kt_c128 hc)
    refine nm_r (e' := nI (Nat.xor (p / 128) c)) (nx_xor _ _) (kt_xtr hr ?_)
    refine pk_eq (kt_tr (Nat.xor (p / 128) c)) 0 (fun e2 => ?_) (fun e2 => ?_) rfl rfl (kt_one31 (kt_trL hr).1) (by decide)
    · rw [show Nat.div p 128 = p / 128 from rfl, kt_cT e2] at h
      refine kt_xrt hr (nm_r (e' := nI (Nat.xor (kt_rt (Nat.xor (p / 128) c)) w)) (nx_xor _ _) ?_)
      exact kt_xhb hc (by omega) (kt_xl (kt_trL hr).2.1 (by omega)) h
    · rw [show Nat.div p 128 = p / 128 from rfl, kt_cF e2] at h; exact h
theorem kt_xhalf {c p : Nat} (hc : c < 2) (hp : p ≤ 16384) (hP : kt_P c (nI p)) (h : post (kt_h2 (kt_ho c p 0) (kt_ho c p 1))) : wpX_half post (nI c, fn, fm, fa, fb, pa, pb, dg, ad) (nI p) := by
  unfold wpX_half
  dsimp only
  refine kt_xbad hc (fun _ => br_t rfl ?_) (fun z => absurd hP z)
  refine kt_xho (w := 0) hc (by decide) hp (kt_xho (w := 1) hc (by decide) hp ?_)
  refine br_c (fun z => br_c (fun y => ?_) (fun y => br_c (fun x => ?_) (fun x => ?_))) (fun z => ?_)
  · rw [kt_h2, if_pos z, if_pos y] at h; exact h
  · rw [kt_h2, if_pos z, if_neg y, if_pos x] at h; exact h
  · rw [kt_h2, if_pos z, if_neg y, if_neg x] at h; exact h
  · rw [kt_h2, if_neg z] at h; exact h
theorem kt_xhalves {c p : Nat} (hc : c < 2) (hp : p ≤ 16384) (hP : kt_P c (nI p)) (h : post (kt_hc (kt_ho c p 0) (kt_ho c p 1))) : wpX_halves post (nI c, fn, fm, fa, fb, pa, pb, dg, ad) (nI p) := by
  unfold wpX_halves
  dsimp only
  refine kt_xbad hc (fun _ => br_t rfl ?_) (fun z => absurd hP z)
  refine kt_xho (w := 0) hc (by decide) hp (kt_xho (w := 1) hc (by decide) hp ?_)
  refine br_c (fun z => br_c (fun y => ?_) (fun y => ?_)) (fun z => br_c (fun y => ?_) (fun y => ?_))
  · rw [kt_hc, if_pos y, if_pos z] at h; exact h
  · rw [kt_hc, if_neg y, if_pos z] at h; exact h
  · rw [kt_hc, if_pos y, if_neg z] at h; exact h
  · rw [kt_hc, if_neg y, if_neg z] at h; exact h
end
/-! next -/
def kt_far (c x : Nat) : Nat := Nat.xor (Nat.xor x c) (kt_m (kt_inv x) (kt_inv x))
def kt_fap (c x : Nat) : Nat := Nat.add (Nat.mul 128 x) (kt_m x (kt_rt (kt_far c x)))
/-- the first place j of the list, from j on, with its point not below st -/
def kt_nG (c st : Nat) : Nat → Nat → Int32
  | 0, _ => -4
  | d + 1, j => cond (Nat.ble st (kt_ls c j)) (nI (kt_ls c j)) (kt_nG c st d (Nat.add j 1))
def kt_faC2 (c x p q k k1 : Nat) : Bool := Nat.beq k1 (Nat.add k 2) && Nat.beq (kt_ls c k) (cond (Nat.ble q p) q p) && Nat.beq (kt_ls c (Nat.add k 1)) (cond (Nat.ble q p) p q)
theorem kt_faC : kt_all (fun c => kt_all (fun x => cond (Nat.beq (kt_tr (kt_far c (Nat.add x 1))) 0) (kt_faC2 c (Nat.add x 1) (kt_fap c (Nat.add x 1)) (Nat.xor (kt_fap c (Nat.add x 1)) (Nat.add x 1)) (kt_rk c (Nat.add x 1)) (kt_rk c (Nat.add x 2))) (Nat.beq (kt_rk c (Nat.add x 1)) (kt_rk c (Nat.add x 2)))) 127) 2 = true := by decide +kernel
theorem kt_fa0 : kt_all (fun c => Nat.beq (kt_rk c 1) 1 && Nat.beq (kt_ls c 0) 1) 2 = true := by decide +kernel
theorem kt_lowC : kt_all (fun c => kt_all (fun x => kt_all (fun j => Nat.ble (Nat.add (kt_ls c j) 1) (Nat.mul 128 x)) (kt_rk c x)) 129) 2 = true := by decide +kernel
theorem kt_low {c x j : Nat} (hc : c < 2) (hx : x < 129) (hj : j < kt_rk c x) : kt_ls c j < 128 * x :=
  Nat.le_of_ble_eq_true (kt_all_ok (kt_all_ok (kt_all_ok (p := fun c => kt_all (fun x => kt_all (fun j => Nat.ble (Nat.add (kt_ls c j) 1) (Nat.mul 128 x)) (kt_rk c x)) 129) kt_lowC c hc) x hx) j hj)
theorem kt_nG_skip {c st : Nat} : ∀ k d, (∀ j, j < k → kt_ls c j < st) → ∀ j, j ≤ k → kt_nG c st (d + (k - j)) j = kt_nG c st d k := by
  intro k d h j hj
  generalize hm : k - j = m
  induction m generalizing j with
  | zero => have e : j = k := by omega
            rw [e]; rfl
  | succ m ih =>
    rw [show d + (m + 1) = (d + m) + 1 by omega, kt_nG]
    have hb : Nat.ble st (kt_ls c j) = false := by
      cases z : Nat.ble st (kt_ls c j) with
      | false => rfl
      | true => have a := Nat.le_of_ble_eq_true z; have b := h j (by omega); omega
    rw [hb]
    exact ih (j + 1) (by omega) (by omega)
theorem kt_nG_T {c st d j : Nat} (h : st ≤ kt_ls c j) : kt_nG c st (d + 1) j = nI (kt_ls c j) := by
  rw [kt_nG, show Nat.ble st (kt_ls c j) = true from Nat.ble_eq_true_of_le h]; rfl
theorem kt_nG_F {c st d j : Nat} (h : kt_ls c j < st) : kt_nG c st (d + 1) j = kt_nG c st d (j + 1) := by
  rw [kt_nG]
  cases z : Nat.ble st (kt_ls c j) with
  | false => rfl
  | true => have a := Nat.le_of_ble_eq_true z; omega
theorem kt_rk_le {c x : Nat} (hc : c < 2) (hx : x < 129) : kt_rk c x < kt_n c := by
  have a : kt_all (fun c => kt_all (fun x => Nat.ble (Nat.add (kt_rk c x) 1) (kt_n c)) 129) 2 = true := by decide +kernel
  exact Nat.le_of_ble_eq_true (kt_all_ok (kt_all_ok (p := fun c => kt_all (fun x => Nat.ble (Nat.add (kt_rk c x) 1) (kt_n c)) 129) a c hc) x hx)
/-- what a row says of the search -/
theorem kt_far_row {c x : Nat} (hc : c < 2) (hx : x < 128) (h0 : x ≠ 0) : (kt_tr (kt_far c x) ≠ 0 ∧ kt_rk c (x + 1) = kt_rk c x) ∨ (kt_tr (kt_far c x) = 0 ∧ kt_rk c (x + 1) = kt_rk c x + 2 ∧ ((Nat.xor (kt_fap c x) x ≤ kt_fap c x ∧ kt_ls c (kt_rk c x) = Nat.xor (kt_fap c x) x ∧ kt_ls c (kt_rk c x + 1) = kt_fap c x) ∨ (¬ Nat.xor (kt_fap c x) x ≤ kt_fap c x ∧ kt_ls c (kt_rk c x) = kt_fap c x ∧ kt_ls c (kt_rk c x + 1) = Nat.xor (kt_fap c x) x))) := by
  obtain ⟨y, rfl⟩ : ∃ y, x = y + 1 := ⟨x - 1, by omega⟩
  have a := kt_all_ok (kt_all_ok kt_faC c hc) y (by omega)
  cases z : Nat.beq (kt_tr (kt_far c (Nat.add y 1))) 0 with
  | false =>
    rw [z] at a
    exact Or.inl ⟨Nat.ne_of_beq_eq_false z, (Nat.eq_of_beq_eq_true a).symm⟩
  | true =>
    rw [z] at a
    have a' : kt_faC2 c (y + 1) (kt_fap c (y + 1)) (Nat.xor (kt_fap c (y + 1)) (y + 1)) (kt_rk c (y + 1)) (kt_rk c (y + 2)) = true := a
    unfold kt_faC2 at a'
    rw [Bool.and_eq_true, Bool.and_eq_true] at a'
    obtain ⟨⟨a1, a2⟩, a3⟩ := a'
    have b1 := Nat.eq_of_beq_eq_true a1
    have b2 := Nat.eq_of_beq_eq_true a2
    have b3 := Nat.eq_of_beq_eq_true a3
    refine Or.inr ⟨Nat.eq_of_beq_eq_true z, b1, ?_⟩
    cases w : Nat.ble (Nat.xor (kt_fap c (y + 1)) (y + 1)) (kt_fap c (y + 1)) with
    | true =>
      rw [w] at b2 b3
      exact Or.inl ⟨Nat.le_of_ble_eq_true w, b2, b3⟩
    | false =>
      rw [w] at b2 b3
      refine Or.inr ⟨fun q => ?_, b2, b3⟩
      rw [Nat.ble_eq_true_of_le q] at w
      exact absurd w (by decide)
end
section
/-! X: next; recode and multiplied -/
section
variable {post : Int32 → Prop} {fc fn fm fa fb pa pb dg : Int32} {ad ai al : Nat → Int32}
theorem kt_x128 {z st : Nat} (hz : z < 2 ^ 31) (hs : st < 2 ^ 31) (h1 : z < st → post (-4)) (h0 : st ≤ z → post (nI z)) : wX_firstAt_128 post (nI st) (nI z) fc fn fm fa fb pa pb dg ad :=
  pk_lt z st h1 h0 rfl rfl hz hs
theorem kt_fap_lt {c x : Nat} (hx : x < 128) : kt_fap c x < 16384 ∧ Nat.xor (kt_fap c x) x < 16384 := by
  have h1 : kt_fap c x < 2 ^ 14 := by
    have h2 : kt_m x (kt_rt (kt_far c x)) < 128 := kt_m_lt _ _
    show 128 * x + kt_m x (kt_rt (kt_far c x)) < 2 ^ 14
    omega
  exact ⟨h1, Nat.xor_lt_two_pow (n := 14) h1 (by omega)⟩
/-- one row of the search: what firstAt answers -/
theorem kt_xfa {c x st : Nat} (hc : c < 2) (hx : x < 128) (hs : st ≤ 16384) (hpos : ∀ r : Nat, r < 16384 → kt_nG c st (kt_n c - kt_rk c x) (kt_rk c x) = nI r → post (nI r)) (hneg : kt_nG c st (kt_n c - kt_rk c x) (kt_rk c x) = kt_nG c st (kt_n c - kt_rk c (x + 1)) (kt_rk c (x + 1)) → post (-4)) : wpX_firstAt post (nI c, fn, fm, fa, fb, pa, pb, dg, ad) (nI x) (nI st) := by
  have hn1 := kt_rk_le hc (x := x + 1) (by omega)
  unfold wpX_firstAt
  dsimp only
  refine pk_eq x 0 (fun e => pk_lt 1 st (fun e2 => ?_) (fun e2 => ?_)) (fun e => ?_)
  · subst e
    have a := kt_all_ok kt_fa0 c hc
    rw [Bool.and_eq_true] at a
    have a1 : kt_rk c (0 + 1) = 1 := Nat.eq_of_beq_eq_true a.1
    have a2 : kt_ls c 0 = 1 := Nat.eq_of_beq_eq_true a.2
    rw [a1] at hn1
    refine hneg ?_
    rw [a1, kt_rk_0 hc, show kt_n c - 0 = (kt_n c - 1) + 1 by omega]
    exact kt_nG_F (by omega)
  · subst e
    have a := kt_all_ok kt_fa0 c hc
    rw [Bool.and_eq_true] at a
    have a1 : kt_rk c (0 + 1) = 1 := Nat.eq_of_beq_eq_true a.1
    have a2 : kt_ls c 0 = 1 := Nat.eq_of_beq_eq_true a.2
    rw [a1] at hn1
    refine hpos 1 (by decide) ?_
    rw [kt_rk_0 hc, show kt_n c - 0 = (kt_n c - 1) + 1 by omega, kt_nG_T (by omega), a2]
  · have hr : kt_far c x < 128 := kt_xl (kt_xl hx (kt_c128 hc)) (kt_m_lt _ _)
    have hf := kt_fap_lt (c := c) hx
    refine kt_xinv hx (kt_xmul (kt_inv_lt _) (kt_inv_lt _) (nm_r (e' := nI (kt_far c x)) (by rw [nx_xor, nx_xor]; rfl) (kt_xtr hr ?_)))
    refine pk_eq (kt_tr (kt_far c x)) 0 (fun e2 => ?_) (fun e2 => ?_) rfl rfl (kt_one31 (kt_trL hr).1) (by decide)
    · refine kt_xrt hr (kt_xmul hx (kt_trL hr).2.1 (nm_r (e' := nI (kt_fap c x)) (kt_pack hx (kt_m_lt _ _)) (nm_r (e' := nI (Nat.xor (kt_fap c x) x)) (nx_xor _ _) ?_)))
      rcases kt_far_row hc hx e with ⟨z, _⟩ | ⟨_, hk, ht⟩
      · exact absurd e2 z
      · have e3 : kt_n c - kt_rk c x = (kt_n c - kt_rk c (x + 1)) + 1 + 1 := by omega
        rw [e3] at hpos hneg
        refine pk_le (Nat.xor (kt_fap c x) x) (kt_fap c x) (fun g => ?_) (fun g => ?_)
        · rcases ht with ⟨_, t1, t2⟩ | ⟨t0, _, _⟩
          · refine pk_lt (Nat.xor (kt_fap c x) x) st (fun g2 => br_t (nI_le g (by omega)) (kt_x128 (by omega) (by omega) (fun g3 => hneg ?_) (fun g3 => hpos _ (by omega) ?_))) (fun g2 => hpos _ (by omega) ?_)
            · rw [kt_nG_F (by omega), kt_nG_F (by omega), hk]
            · rw [kt_nG_F (by omega), kt_nG_T (by omega), t2]
            · rw [kt_nG_T (by omega), t1]
          · exact absurd g t0
        · rcases ht with ⟨t0, _, _⟩ | ⟨_, t1, t2⟩
          · omega
          · refine pk_lt (kt_fap c x) st (fun g2 => br_f (nI_ge g (by omega)) (kt_x128 (by omega) (by omega) (fun g3 => hneg ?_) (fun g3 => hpos _ (by omega) ?_))) (fun g2 => hpos _ (by omega) ?_)
            · rw [kt_nG_F (by omega), kt_nG_F (by omega), hk]
            · rw [kt_nG_F (by omega), kt_nG_T (by omega), t2]
            · rw [kt_nG_T (by omega), t1]
    · rcases kt_far_row hc hx e with ⟨_, z⟩ | ⟨z, _, _⟩
      · exact hneg (by rw [z])
      · exact absurd z e2
theorem kt_xnxL {c st : Nat} (hc : c < 2) (hs : st ≤ 16384) : ∀ d x, x + d = 128 → post (kt_nG c st (kt_n c - kt_rk c x) (kt_rk c x)) → wX_next_25 post (nI st) (nI c) fn fm fa fb pa pb dg ad (d + 1) (nI x) := by
  intro d
  induction d with
  | zero =>
    intro x hx h
    have e : x = 128 := by omega
    subst e
    refine br_t (nI_le (a := 128) (by omega) (by omega)) ?_
    have a := kt_rk_e hc
    rw [show kt_n c - kt_rk c 128 = 0 + 1 by omega, kt_nG_T (by rw [kt_ls_e hc]; exact hs), kt_ls_e hc] at h
    exact h
  | succ d ih =>
    intro x hx h
    refine br_f (nI_ge (b := 128) (by omega) (by decide)) ?_
    refine kt_xfa hc (by omega) hs (fun r hr e => ?_) (fun e => ?_)
    · rw [e] at h
      exact br_f (nI_pos (by omega)) h
    · rw [e] at h
      exact br_t (by decide) (nm_r (nI_1 x) (ih (x + 1) (by omega) h))
theorem kt_xnx {c st : Nat} (hc : c < 2) (hs : st ≤ 16384) (h : post (kt_nG c st (kt_n c) 0)) : ∃ n25 : Nat, wX_next_25 post (nI st) (nI c) fn fm fa fb pa pb dg ad n25 (nI (st / 128)) := by
  refine Exists.intro (128 - st / 128 + 1) (kt_xnxL hc hs (128 - st / 128) (st / 128) (by omega) ?_)
  have hr := kt_rk_le hc (x := st / 128) (by omega)
  have e := kt_nG_skip (c := c) (st := st) (kt_rk c (st / 128)) (kt_n c - kt_rk c (st / 128)) (fun j hj => by have := kt_low hc (x := st / 128) (by omega) hj; omega) 0 (by omega)
  rw [show kt_n c - kt_rk c (st / 128) + (kt_rk c (st / 128) - 0) = kt_n c by omega] at e
  rw [← e]
  exact h
end
/-! recode over Int32 -/
def kt_cm (c : Nat) : Int32 := cond (Nat.beq c 1) 1 (-1)
def kt_cA (c : Nat) : Int32 := cond (Nat.beq c 1) (-11) 9
def kt_cB (_ : Nat) : Int32 := 7
def kt_nm (c : Nat) : Int32 := ((kt_cA c * kt_cA c) + ((kt_cm c * kt_cA c) * kt_cB c)) + ((2 * kt_cB c) * kt_cB c)
def kt_rq (t b : Int32) : Int32 := if 0 ≤ t then t / (2 * b) else if ((t / (2 * b)) * 2) * b = t then t / (2 * b) else t / (2 * b) - 1
def kt_rd (a b : Int32) : Int32 := kt_rq ((2 * a) + b) b
def kt_q0 (c : Nat) (k : Int32) : Int32 := kt_rd (k * (kt_cA c + (kt_cm c * kt_cB c))) (kt_nm c)
def kt_q1 (c : Nat) (k : Int32) : Int32 := kt_rd ((-k) * kt_cB c) (kt_nm c)
def kt_pA (c : Nat) (k : Int32) : Int32 := k - ((kt_q0 c k * kt_cA c) - ((2 * kt_q1 c k) * kt_cB c))
def kt_pB (c : Nat) (k : Int32) : Int32 := -(((kt_q0 c k * kt_cB c) + (kt_q1 c k * kt_cA c)) + ((kt_cm c * kt_q1 c k) * kt_cB c))
def kt_dd (a b : Int32) : Int32 := if (a &&& 1) = 1 then 2 - ((a - (2 * b)) &&& 3) else 0
def kt_da (a b : Int32) : Int32 := if (a &&& 1) = 1 then a - (2 - ((a - (2 * b)) &&& 3)) else a
def kt_cons (d : Int32) : Option (List Int32) → Option (List Int32)
  | none => none
  | some l => some (d :: l)
def kt_ds (m : Int32) : Nat → Int32 → Int32 → Option (List Int32)
  | 0, _, _ => none
  | f + 1, a, b => if a = 0 ∧ b = 0 then some [] else kt_cons (kt_dd a b) (kt_ds m f (b + (m * (kt_da a b / 2))) (-(kt_da a b / 2)))
/-- the digits' value: a residue -/
def kt_ev (c : Nat) : List Int32 → Nat
  | [] => 0
  | d :: l => Nat.mod (Nat.add (Nat.mul (kt_lam c) (kt_ev c l)) (if d = 1 then 1 else if d = -1 then Nat.sub (kt_n c) 1 else 0)) (kt_n c)
def kt_evo (c r : Nat) : Option (List Int32) → Bool
  | none => false
  | some l => Nat.beq (kt_ev c l) r
theorem kt_dsC : kt_all (fun c => kt_all (fun k => kt_evo c k (kt_ds (kt_cm c) 12 (kt_pA c (nI k)) (kt_pB c (nI k))) && kt_evo c (Nat.mod (Nat.sub (kt_n c) k) (kt_n c)) (kt_ds (kt_cm c) 12 (kt_pA c (-nI k)) (kt_pB c (-nI k)))) (kt_n c)) 2 = true := by decide +kernel
end
section
/-! walks of rounded, reduce, recode, multiplied -/
theorem kt_nm1 {c : Nat} (hc : c < 2) : 1 ≤ kt_nm c := kt_c2 (P := fun c => 1 ≤ kt_nm c) (by decide) (by decide) hc
theorem kt_nm2 {c : Nat} (hc : c < 2) : ¬ 2 * kt_nm c = 0 := kt_c2 (P := fun c => ¬ 2 * kt_nm c = 0) (by decide) (by decide) hc
theorem kt_xrd {post : Int32 → Prop} {u : SX} {a b : Int32} (h1 : 1 ≤ b) (h2 : ¬ 2 * b = 0) (h : post (kt_rd a b)) : wpX_rounded post u a b := by
  obtain ⟨fc, fn, fm, fa, fb, pa, pb, dg, ad⟩ := u
  unfold wpX_rounded
  dsimp only
  unfold kt_rd at h
  refine br_t h1 (nm_e ?_)
  generalize 2 * a + b = t at h ⊢
  refine And.intro h2 (nm_e (br_c (fun z => ?_) (fun z => br_c (fun y => ?_) (fun y => ?_))))
  · rw [kt_rq, if_pos z] at h; exact h
  · rw [kt_rq, if_neg z, if_pos y] at h; exact h
  · rw [kt_rq, if_neg z, if_neg y] at h; exact h
theorem kt_ds_len {m : Int32} : ∀ f a b l, kt_ds m f a b = some l → l.length < f := by
  intro f
  induction f with
  | zero => intro a b l h; rw [kt_ds] at h; exact absurd h (by simp)
  | succ f ih =>
    intro a b l h
    rw [kt_ds] at h
    by_cases z : a = 0 ∧ b = 0
    · rw [if_pos z] at h
      cases h
      exact Nat.succ_pos f
    · rw [if_neg z] at h
      cases e : kt_ds m f (b + (m * (kt_da a b / 2))) (-(kt_da a b / 2)) with
      | none => rw [e] at h; exact absurd h (by simp [kt_cons])
      | some l' =>
        rw [e] at h
        cases h
        exact Nat.succ_lt_succ (ih _ _ _ e)
section
variable {post : SX → Prop} {fc fn fa fb pa pb dg m : Int32} {ad : Nat → Int32}
theorem kt_xred {c : Nat} {k : Int32} (hc : c < 2) (h : post (nI c, fn, kt_cm c, kt_cA c, kt_cB c, kt_pA c k, kt_pB c k, dg, ad)) : wpX_reduce post (nI c, fn, kt_cm c, kt_cA c, kt_cB c, pa, pb, dg, ad) k := by
  unfold wpX_reduce
  dsimp only
  exact nm_r (e' := kt_nm c) rfl (kt_xrd (kt_nm1 hc) (kt_nm2 hc) (kt_xrd (kt_nm1 hc) (kt_nm2 hc) (nm_e (nm_e h))))
theorem kt_xrcL : ∀ f i a b (ad : Nat → Int32) l, kt_ds m f a b = some l → i + f ≤ 40 → (∀ pa pb ad', (∀ j, j < i → ad' j = ad j) → (∀ j, j < l.length → ad' (i + j) = l.getD j 0) → post (fc, fn, m, fa, fb, pa, pb, nI (i + l.length), ad')) → wX_recode_12 post fc fn m fa fb f (nI i) a b (nI i) ad := by
  intro f
  induction f with
  | zero => intro i a b ad l h; rw [kt_ds] at h; exact absurd h (by simp)
  | succ f ih =>
    intro i a b ad l hl hi h
    refine br_f (nI_ge (b := 40) (by omega) (by decide)) ?_
    rw [kt_ds] at hl
    by_cases z : a = 0 ∧ b = 0
    · rw [if_pos z] at hl
      cases hl
      exact br_t z.1 (br_t z.2 (h a b ad (fun _ _ => rfl) (fun j hj => absurd hj (Nat.not_lt_zero j))))
    · rw [if_neg z] at hl
      cases e : kt_ds m f (b + (m * (kt_da a b / 2))) (-(kt_da a b / 2)) with
      | none => rw [e] at hl; exact absurd hl (by simp [kt_cons])
      | some l' =>
        rw [e] at hl
        cases hl
        have K70 : wX_recode_70 post (wX_recode_12 post fc fn m fa fb f) (nI i) (kt_dd a b) fc fn m fa fb (kt_da a b) b (nI i) ad := by
          unfold wX_recode_70
          rw [nI_clamp (by omega)]
          refine And.intro (vp_in_nI (by omega) (by decide)) (nm_e (nm_r (nI_1 i) (And.intro (by decide) (nm_e (nm_e (nm_e (nm_r (nI_1 i) ?_)))))))
          refine ih (i + 1) _ _ _ l' e (by omega) (fun pa pb ad' h1 h2 => ?_)
          have h3 := h pa pb ad' (fun j hj => ?_) (fun j hj => ?_)
          · rw [show i + (kt_dd a b :: l').length = i + 1 + l'.length by rw [List.length_cons]; omega] at h3
            exact h3
          · rw [h1 j (by omega)]
            exact pk_un (by omega)
          · cases j with
            | zero =>
              rw [Nat.add_zero, h1 i (by omega)]
              exact pk_us
            | succ j =>
              rw [show i + (j + 1) = i + 1 + j by omega, h2 j (by rw [List.length_cons] at hj; omega)]
              rfl
        have K : wX_recode_32 post (wX_recode_12 post fc fn m fa fb f) (nI i) fc fn m fa fb a b (nI i) ad := by
          unfold wX_recode_32
          by_cases o : (a &&& 1) = 1
          · exact br_t o (nm_r (e' := kt_dd a b) (by rw [kt_dd, if_pos o]) (nm_r (e' := kt_da a b) (by rw [kt_dd, kt_da, if_pos o, if_pos o]) K70))
          · refine br_f o ?_
            rw [kt_dd, kt_da, if_neg o, if_neg o] at K70
            exact K70
        by_cases za : a = 0
        · exact br_t za (br_f (fun zb => z ⟨za, zb⟩) K)
        · exact br_f za K
theorem kt_xrc {c : Nat} {k : Int32} {l : List Int32} (hc : c < 2) (hl : kt_ds (kt_cm c) 12 (kt_pA c k) (kt_pB c k) = some l) (h : ∀ pa pb ad', (∀ j, j < l.length → ad' j = l.getD j 0) → post (nI c, fn, kt_cm c, kt_cA c, kt_cB c, pa, pb, nI l.length, ad')) : wpX_recode post (nI c, fn, kt_cm c, kt_cA c, kt_cB c, pa, pb, dg, ad) k := by
  unfold wpX_recode
  dsimp only
  refine kt_xred hc (Exists.intro 12 (kt_xrcL 12 0 _ _ ad l hl (by decide) (fun pa pb ad' _ h2 => ?_)))
  rw [Nat.zero_add]
  refine h pa pb ad' (fun j hj => ?_)
  have h3 := h2 j hj
  rw [Nat.zero_add] at h3
  exact h3
end
/-! residues -/
theorem kt_negm {n i : Nat} (h : i ≤ n) (hn : 0 < n) : (n - i) % n = ((n - 1) * i) % n := by
  cases i with
  | zero => rw [Nat.sub_zero, Nat.mod_self, Nat.mul_zero, Nat.zero_mod]
  | succ t =>
    obtain ⟨s, rfl⟩ : ∃ s, n = s + 1 := ⟨n - 1, by omega⟩
    have e : (s + 1 - 1) * (t + 1) = (s + 1 - (t + 1)) + (s + 1) * t := by
      rw [Nat.add_sub_cancel, Nat.mul_add, Nat.add_mul]
      omega
    rw [e, Nat.add_mul_mod_self_left]
theorem kt_ar1 (lam E i n : Nat) : ((lam * ((E * i) % n)) % n + i) % n = (((lam * E + 1) % n) * i) % n := by
  rw [Nat.mod_add_mod, Nat.mod_mul_mod, Nat.add_mul, Nat.one_mul, Nat.mul_assoc, Nat.add_mod, Nat.mul_mod_mod, ← Nat.add_mod]
theorem kt_ar0 (lam E i n : Nat) : (lam * ((E * i) % n)) % n = (((lam * E + 0) % n) * i) % n := by
  rw [Nat.mod_mul_mod, Nat.add_zero, Nat.mul_assoc, Nat.mul_mod_mod]
theorem kt_arm (lam E : Nat) {i n : Nat} (h : i ≤ n) (hn : 0 < n) : ((lam * ((E * i) % n)) % n + (n - i) % n) % n = (((lam * E + (n - 1)) % n) * i) % n := by
  rw [kt_negm h hn, Nat.mod_mul_mod, Nat.add_mul, Nat.mul_assoc, Nat.mul_mod_mod, ← Nat.add_mod]
/-- r is the residue of the multiplier k -/
def kt_res (c : Nat) (k : Int32) (r : Nat) : Prop := (∃ a : Nat, a ≤ 1000000 ∧ k = nI a ∧ r = a % kt_n c) ∨ (∃ a : Nat, 0 < a ∧ a ≤ 1000000 ∧ k = -nI a ∧ r = (kt_n c - a % kt_n c) % kt_n c)
theorem kt_res_ex {c : Nat} {k : Int32} (h1 : ¬ k < -1000000) (h2 : ¬ 1000000 < k) : ∃ r, r < kt_n c ∧ kt_res c k r := by
  have hn := kt_n_lt c
  rw [Int32.lt_iff_toInt_lt, show (-1000000 : Int32).toInt = -1000000 by decide] at h1
  rw [Int32.lt_iff_toInt_lt, show (1000000 : Int32).toInt = 1000000 by decide] at h2
  by_cases z : 0 ≤ k.toInt
  · refine ⟨_, Nat.mod_lt _ (by omega), Or.inl ⟨k.toInt.toNat, by omega, ?_, rfl⟩⟩
    apply Int32.toInt_inj.mp
    rw [nI_toInt (by omega)]
    omega
  · refine ⟨_, Nat.mod_lt _ (by omega), Or.inr ⟨(-k.toInt).toNat, by omega, by omega, ?_, rfl⟩⟩
    apply Int32.toInt_inj.mp
    rw [sb_negT (by omega)]
    omega
theorem kt_ndiv {a d : Nat} (ha : a < 2 ^ 31) (h0 : 0 < d) (hd : d < 2 ^ 31) : (-nI a) / nI d = -nI (a / d) := by
  apply Int32.toInt_inj.mp
  have h2 : a / d ≤ a := Nat.div_le_self _ _
  rw [Int32.toInt_div, sb_negT ha, nI_toInt hd, sb_negT (by omega), Int.neg_tdiv, Int.tdiv_eq_ediv_of_nonneg (by omega)]
  have e : ((a : Int) / (d : Int)) = ((a / d : Nat) : Int) := (Int.natCast_ediv a d).symm
  rw [e]
  clear e
  generalize a / d = q at h2 ⊢
  exact Int.bmod_eq_of_le (by omega) (by omega)
theorem kt_nrem {a d : Nat} (ha : a < 2 ^ 31) (h0 : 0 < d) (hd : d < 2 ^ 31) : (-nI a) - (-nI a) / nI d * nI d = -nI (a % d) := by
  rw [kt_ndiv ha h0 hd, ← pk_rem ha h0 hd, pk_div ha h0 hd]
  grind
theorem kt_dn (j : Nat) : nI j + (-1) = nI j - 1 := (Int32.sub_eq_add_neg _ _).symm
theorem kt_evs {c : Nat} {l : List Int32} {j : Nat} (hj : j < l.length) : kt_ev c (l.drop j) = (kt_lam c * kt_ev c (l.drop (j + 1)) + (if l.getD j 0 = 1 then 1 else if l.getD j 0 = -1 then kt_n c - 1 else 0)) % kt_n c := by
  have e : l.drop j = l.getD j 0 :: l.drop (j + 1) := by
    rw [List.drop_eq_getElem_cons hj]
    rw [List.getD_eq_getElem?_getD, List.getElem?_eq_getElem hj]
    rfl
  rw [e]
  rfl
section
variable {post : Int32 → SX → Prop} {fn fm fa fb pa pb dg : Int32} {ad : Nat → Int32}
theorem kt_xmlL {c i : Nat} {l : List Int32} (hc : c < 2) (hi : i < kt_n c) (hd : ∀ j, j < l.length → ad j = l.getD j 0) (hlen : l.length ≤ 40) (h : post (nI (kt_pt c ((kt_ev c l * i) % kt_n c))) (nI c, fn, fm, fa, fb, pa, pb, dg, ad)) : ∀ j e, j ≤ l.length → e = (kt_ev c (l.drop j) * i) % kt_n c → wX_multiplied_33 post (nI (kt_pt c i)) (nI c) fn fm fa fb pa pb dg ad (j + 1) (nI (kt_pt c e)) (nI j - 1) := by
  have hn := kt_n_lt c
  intro j
  induction j with
  | zero =>
    intro e _ he
    rw [List.drop_zero] at he
    refine br_t (by decide) ?_
    rw [he]
    exact h
  | succ j ih =>
    intro e hj he
    have hE : e < kt_n c := by rw [he]; exact Nat.mod_lt _ (by omega)
    have hs : (kt_lam c * e) % kt_n c < kt_n c := Nat.mod_lt _ (by omega)
    have hin : vp_in (nI j) 40 := vp_in_nI (by omega) (by decide)
    have hev := kt_evs (c := c) (l := l) (j := j) (by omega)
    rw [nI_pred]
    refine br_f (nI_pos (by omega)) (kt_xsqT hc hE (And.intro hin ?_))
    rw [nI_clamp (by omega), hd j (by omega)]
    refine br_c (fun z => ?_) (fun z => And.intro hin (br_c (fun y => ?_) (fun y => ?_)))
    · rw [if_pos z] at hev
      refine kt_xsumT hc hs hi (nm_r (kt_dn j) (ih _ (by omega) ?_))
      rw [hev, he]
      exact kt_ar1 _ _ _ _
    · rw [if_neg z, if_pos y] at hev
      have hm : (kt_n c - i) % kt_n c < kt_n c := Nat.mod_lt _ (by omega)
      refine kt_xmiT hc hi (kt_xsumT hc hs hm (nm_r (kt_dn j) (ih _ (by omega) ?_)))
      rw [hev, he]
      exact kt_arm _ _ (by omega) (by omega)
    · rw [if_neg z, if_neg y] at hev
      refine nm_r (kt_dn j) (ih _ (by omega) ?_)
      rw [hev, he]
      exact kt_ar0 _ _ _ _
theorem kt_xm18 {c i r : Nat} {k : Int32} {l : List Int32} (hc : c < 2) (hi : i < kt_n c) (hl : kt_ds (kt_cm c) 12 (kt_pA c k) (kt_pB c k) = some l) (hr : kt_ev c l = r) (h : ∀ pa pb dg ad, post (nI (kt_pt c ((r * i) % kt_n c))) (nI c, fn, kt_cm c, kt_cA c, kt_cB c, pa, pb, dg, ad)) : wX_multiplied_18 post (nI (kt_pt c i)) k (nI c) fn (kt_cm c) (kt_cA c) (kt_cB c) pa pb dg ad := by
  have hlen := kt_ds_len _ _ _ _ hl
  unfold wX_multiplied_18
  refine kt_xrc hc hl (fun pa pb ad' hd => nm_e (Exists.intro (l.length + 1) ?_))
  have hO : (16384 : Int32) = nI (kt_pt c 0) := by rw [kt_pt_0 hc]; rfl
  rw [hO]
  refine kt_xmlL hc hi hd (by omega) (by rw [hr]; exact h _ _ _ _) l.length 0 (Nat.le_refl _) ?_
  rw [List.drop_length, kt_ev, Nat.zero_mul, Nat.zero_mod]
theorem kt_evo_ok {c r : Nat} {o : Option (List Int32)} (h : kt_evo c r o = true) : ∃ l, o = some l ∧ kt_ev c l = r := by
  cases o with
  | none => exact kt_ff h
  | some l => exact ⟨l, rfl, Nat.eq_of_beq_eq_true h⟩
theorem kt_xml {c i r : Nat} {k : Int32} (hc : c < 2) (hi : i < kt_n c) (hk : kt_res c k r) (h : ∀ pa pb dg ad, post (nI (kt_pt c ((r * i) % kt_n c))) (nI c, nI (kt_n c), kt_cm c, kt_cA c, kt_cB c, pa, pb, dg, ad)) : wpX_multiplied post (nI c, nI (kt_n c), kt_cm c, kt_cA c, kt_cB c, pa, pb, dg, ad) k (nI (kt_pt c i)) := by
  have hn := kt_n_lt c
  unfold wpX_multiplied
  dsimp only
  refine br_f (nI_nle (by omega) (by omega)) (And.intro (nI_ne0 (by omega) (by omega)) ?_)
  rcases hk with ⟨a, h1, rfl, rfl⟩ | ⟨a, h0, h1, rfl, rfl⟩
  · rw [pk_rem (by omega) (by omega) (by omega)]
    have a1 := kt_allc (p := fun c k => kt_evo c k (kt_ds (kt_cm c) 12 (kt_pA c (nI k)) (kt_pB c (nI k))) && kt_evo c (Nat.mod (Nat.sub (kt_n c) k) (kt_n c)) (kt_ds (kt_cm c) 12 (kt_pA c (-nI k)) (kt_pB c (-nI k)))) (n := kt_n) kt_dsC hc (i := a % kt_n c) (Nat.mod_lt _ (by omega))
    rw [Bool.and_eq_true] at a1
    obtain ⟨l, e1, e2⟩ := kt_evo_ok a1.1
    exact kt_xm18 hc hi e1 e2 h
  · rw [kt_nrem (by omega) (by omega) (by omega)]
    have a1 := kt_allc (p := fun c k => kt_evo c k (kt_ds (kt_cm c) 12 (kt_pA c (nI k)) (kt_pB c (nI k))) && kt_evo c (Nat.mod (Nat.sub (kt_n c) k) (kt_n c)) (kt_ds (kt_cm c) 12 (kt_pA c (-nI k)) (kt_pB c (-nI k)))) (n := kt_n) kt_dsC hc (i := a % kt_n c) (Nat.mod_lt _ (by omega))
    rw [Bool.and_eq_true] at a1
    obtain ⟨l, e1, e2⟩ := kt_evo_ok a1.2
    exact kt_xm18 hc hi e1 e2 h
end
end
section
/-! orders, multiples, logarithms, searches: both sides -/
def kt_orG (n i : Nat) : Nat → Nat → Nat
  | 0, k => k
  | f + 1, k => cond (Nat.beq (Nat.mod (Nat.mul k i) n) 0) k (kt_orG n i f (Nat.add k 1))
def kt_or (c i : Nat) : Nat := kt_orG (kt_n c) i (kt_n c) 1
def kt_orc (c i o : Nat) : Bool := Nat.beq (Nat.mod (Nat.mul o i) (kt_n c)) 0 && Nat.ble 1 o && Nat.ble o (kt_n c) && Nat.beq (Nat.mod (kt_n c) o) 0 && kt_all (fun k => cond (Nat.beq k 0) true (cond (Nat.beq (Nat.mod (Nat.mul k i) (kt_n c)) 0) false true)) o
theorem kt_orC : kt_all (fun c => kt_all (fun i => kt_orc c i (kt_or c i)) (kt_n c)) 2 = true := by decide +kernel
theorem kt_or_ok {c i : Nat} (hc : c < 2) (hi : i < kt_n c) : (kt_or c i * i) % kt_n c = 0 ∧ 1 ≤ kt_or c i ∧ kt_or c i ≤ kt_n c ∧ kt_n c % kt_or c i = 0 ∧ ∀ k, k < kt_or c i → k ≠ 0 → (k * i) % kt_n c ≠ 0 := by
  have a := kt_allc (p := fun c i => kt_orc c i (kt_or c i)) (n := kt_n) kt_orC hc hi
  simp only [kt_orc, Bool.and_eq_true] at a
  obtain ⟨⟨⟨⟨a1, a2⟩, a3⟩, a4⟩, a5⟩ := a
  refine ⟨Nat.eq_of_beq_eq_true a1, Nat.le_of_ble_eq_true a2, Nat.le_of_ble_eq_true a3, Nat.eq_of_beq_eq_true a4, fun k hk h0 e => ?_⟩
  have b := kt_all_ok a5 k hk
  rw [kt_beqF h0, show Nat.beq (Nat.mod (Nat.mul k i) (kt_n c)) 0 = true from kt_beqT e] at b
  exact kt_ff b
theorem kt_ptE {c i j : Nat} (hc : c < 2) (hi : i < kt_n c) (hj : j < kt_n c) : nI (kt_pt c i) = nI (kt_pt c j) ↔ i = j := by
  have h1 := kt_pt_le hc hi
  have h2 := kt_pt_le hc hj
  rw [nI_eq (by omega) (by omega)]
  exact ⟨fun h => kt_inj hc hi hj h, fun h => by rw [h]⟩
theorem kt_O {c : Nat} (hc : c < 2) : (16384 : Int32) = nI (kt_pt c 0) := by rw [kt_pt_0 hc]; rfl
theorem kt_ptO {c i : Nat} (hc : c < 2) (hi : i < kt_n c) : nI (kt_pt c i) = 16384 ↔ i = 0 := by
  rw [kt_O hc]
  exact kt_ptE hc hi (by omega)
theorem kt_step (k i n : Nat) : ((k * i) % n + i) % n = ((k + 1) * i) % n := by rw [Nat.mod_add_mod, Nat.add_mul, Nat.one_mul]
theorem kt_modo {o i n : Nat} (h : (o * i) % n = 0) (a : Nat) : ((a % o) * i) % n = (a * i) % n := by
  obtain ⟨w, hw⟩ := Nat.dvd_of_mod_eq_zero h
  have e : a * i = (a % o) * i + n * (w * (a / o)) := by
    have e1 : a = a % o + o * (a / o) := (Nat.mod_add_div a o).symm
    have e2 : a * i = (a % o + o * (a / o)) * i := congrArg (· * i) e1
    rw [e2, Nat.add_mul, ← Nat.mul_assoc n w, ← hw, Nat.mul_assoc o, Nat.mul_assoc o, Nat.mul_comm (a / o) i]
  rw [e, Nat.add_mul_mod_self_left]
theorem kt_neg2 {n a i : Nat} (hn : 0 < n) : (n - (a * i) % n) % n = ((n - a % n) % n * i) % n := by
  rw [kt_negm (Nat.le_of_lt (Nat.mod_lt _ hn)) hn, kt_negm (Nat.le_of_lt (Nat.mod_lt a hn)) hn, Nat.mul_mod_mod, Nat.mul_mod_mod, Nat.mod_mul_mod, Nat.mul_assoc]
section
variable {post : Int32 → Prop} {fn : Int32} {ai al : Nat → Int32} {c i : Nat}
theorem kt_yorL (hc : c < 2) (ha : ∀ j, j < 128 → ai j = nI (kt_inv j)) (hi : i < kt_n c) (h : post (nI (kt_or c i))) : ∀ d k, k + d = kt_or c i → 1 ≤ k → wY_orderOf_4 post (nI (kt_pt c i)) (nI c) fn ai al (d + 1) (nI k) (nI (kt_pt c ((k * i) % kt_n c))) := by
  have hn := kt_n_lt c
  have ho := kt_or_ok hc hi
  intro d
  induction d with
  | zero =>
    intro k hk h1
    have e : k = kt_or c i := by omega
    subst e
    refine br_f (nI_ge (b := 300) (by omega) (by decide)) (br_t ?_ h)
    rw [ho.1]
    exact (kt_O hc).symm
  | succ d ih =>
    intro k hk h1
    have hm : (k * i) % kt_n c < kt_n c := Nat.mod_lt _ (by omega)
    refine br_f (nI_ge (b := 300) (by omega) (by decide)) (br_f (fun z => ?_) ?_)
    · exact ho.2.2.2.2 k (by omega) (by omega) ((kt_ptO hc hm).mp z)
    · refine kt_ysumT hc ha hm hi (nm_r (nI_1 k) ?_)
      rw [kt_step]
      exact ih (k + 1) (by omega) (by omega)
theorem kt_yor (hc : c < 2) (ha : ∀ j, j < 128 → ai j = nI (kt_inv j)) (hi : i < kt_n c) (h : post (nI (kt_or c i))) : wpY_orderOf post (nI c, fn, ai, al) (nI (kt_pt c i)) := by
  have ho := kt_or_ok hc hi
  have k := kt_yorL (fn := fn) (al := al) hc ha hi h (kt_or c i - 1) 1 (by omega) (by omega)
  rw [Nat.one_mul, Nat.mod_eq_of_lt hi] at k
  exact Exists.intro _ k
theorem kt_ymyL {x1 : Int32} {L : Nat} (hc : c < 2) (ha : ∀ j, j < 128 → ai j = nI (kt_inv j)) (hi : i < kt_n c) (hL : L < 2 ^ 31) (h1 : 0 ≤ x1 → post (nI (kt_pt c ((L * i) % kt_n c)))) (h0 : ¬ 0 ≤ x1 → wpY_negative (fun r => post r) (nI c, fn, ai, al) (nI (kt_pt c ((L * i) % kt_n c)))) : ∀ d t, t + d = L → wY_many_25 post x1 (nI (kt_pt c i)) (nI L) (nI c) fn ai al (d + 1) (nI (kt_pt c ((t * i) % kt_n c))) (nI t) := by
  have hn := kt_n_lt c
  intro d
  induction d with
  | zero =>
    intro t ht
    have e : t = L := by omega
    subst e
    exact br_t (nI_le (Nat.le_refl _) hL) (br_c h1 h0)
  | succ d ih =>
    intro t ht
    have hm : (t * i) % kt_n c < kt_n c := Nat.mod_lt _ (by omega)
    refine br_f (nI_ge (by omega) hL) (kt_ysumT hc ha hm hi (nm_r (nI_1 t) ?_))
    rw [kt_step]
    exact ih (t + 1) (by omega)
theorem kt_ymy {k : Int32} {r : Nat} (hc : c < 2) (ha : ∀ j, j < 128 → ai j = nI (kt_inv j)) (hi : i < kt_n c) (hk : kt_res c k r) (h : post (nI (kt_pt c ((r * i) % kt_n c)))) : wpY_many post (nI c, fn, ai, al) k (nI (kt_pt c i)) := by
  have hn := kt_n_lt c
  have ho := kt_or_ok hc hi
  have go : ∀ (a : Nat), a ≤ 1000000 → (0 ≤ k → post (nI (kt_pt c ((a * i) % kt_n c)))) → (¬ 0 ≤ k → wpY_negative (fun r => post r) (nI c, fn, ai, al) (nI (kt_pt c ((a * i) % kt_n c)))) → wY_many_10 post k (nI (kt_pt c i)) (nI a) (nI c) fn ai al := by
    intro a h3 h1 h0
    unfold wY_many_10
    refine kt_yor hc ha hi (And.intro (nI_ne0 (by omega) (by omega)) (nm_r (pk_rem (by omega) (by omega) (by omega)) ?_))
    have hlt : a % kt_or c i < kt_or c i := Nat.mod_lt _ (by omega)
    have e := kt_modo ho.1 a
    rw [← e] at h1 h0
    have k := kt_ymyL (fn := fn) (al := al) hc ha hi (L := a % kt_or c i) (by omega) h1 h0 (a % kt_or c i) 0 (by omega)
    rw [Nat.zero_mul, Nat.zero_mod, ← kt_O hc] at k
    exact Exists.intro _ k
  unfold wpY_many
  dsimp only
  rcases hk with ⟨a, h1, rfl, rfl⟩ | ⟨a, h0, h1, rfl, rfl⟩
  · refine br_t (nI_pos' (by omega)) (go a h1 (fun _ => ?_) (fun z => absurd (nI_pos' (by omega)) z))
    rw [Nat.mod_mul_mod] at h
    exact h
  · have hz : ¬ 0 ≤ -nI a := by
      rw [Int32.le_iff_toInt_le, sb_negT (by omega), show (0 : Int32).toInt = 0 by decide]
      omega
    refine br_f hz ?_
    rw [Int32.neg_neg]
    refine go a h1 (fun z => absurd z hz) (fun _ => kt_yngT hc (Nat.mod_lt _ (by omega)) ?_)
    rw [kt_neg2 (by omega)]
    exact h
end
/-! X: order -/
section
variable {post : Int32 → SX → Prop} {c i : Nat}
theorem kt_xorL (hc : c < 2) (hi : i < kt_n c) (h : ∀ pa pb dg ad, post (nI (kt_or c i)) (nI c, nI (kt_n c), kt_cm c, kt_cA c, kt_cB c, pa, pb, dg, ad)) : ∀ f d, d + f = kt_or c i → 1 ≤ d → ∀ pa pb dg ad, wX_order_12 post (nI (kt_pt c i)) (f + 1) (nI d) (nI c) (nI (kt_n c)) (kt_cm c) (kt_cA c) (kt_cB c) pa pb dg ad := by
  have hn := kt_n_lt c
  have ho := kt_or_ok hc hi
  intro f
  induction f with
  | zero =>
    intro d hd h1 pa pb dg ad
    have e : d = kt_or c i := by omega
    subst e
    refine br_f (nI_nlt (by omega) (by omega)) (br_f (nI_ge (b := 200) (by omega) (by decide)) (And.intro (nI_ne0 (by omega) (by omega)) ?_))
    rw [pk_rem (by omega) (by omega) (by omega), ho.2.2.2.1]
    refine br_t rfl (kt_xml hc hi (r := kt_or c i % kt_n c) (Or.inl ⟨kt_or c i, by omega, rfl, rfl⟩) (fun pa pb dg ad => ?_))
    dsimp only
    rw [Nat.mod_mul_mod, ho.1]
    exact br_t (kt_O hc).symm (h pa pb dg ad)
  | succ f ih =>
    intro d hd h1 pa pb dg ad
    refine br_f (nI_nlt (by omega) (by omega)) (br_f (nI_ge (b := 200) (by omega) (by decide)) (And.intro (nI_ne0 (by omega) (by omega)) (br_c (fun _ => ?_) (fun _ => nm_r (nI_1 d) (ih (d + 1) (by omega) (by omega) pa pb dg ad)))))
    refine kt_xml hc hi (r := d % kt_n c) (Or.inl ⟨d, by omega, rfl, rfl⟩) (fun pa pb dg ad => ?_)
    dsimp only
    rw [Nat.mod_mul_mod]
    refine br_f (fun z => ?_) (nm_r (nI_1 d) (ih (d + 1) (by omega) (by omega) pa pb dg ad))
    exact ho.2.2.2.2 d (by omega) (by omega) ((kt_ptO hc (Nat.mod_lt _ (by omega))).mp z)
end
/-! logarithms -/
def kt_lgG (n i e : Nat) : Nat → Nat → Int32
  | 0, _ => -4
  | f + 1, k => if (k * i) % n = e then nI k else kt_lgG n i e f (k + 1)
theorem kt_lg_none {n i e : Nat} : ∀ f k, (∀ t, k ≤ t → (t * i) % n ≠ e) → kt_lgG n i e f k = -4 := by
  intro f
  induction f with
  | zero => intro k _; rfl
  | succ f ih =>
    intro k h
    rw [kt_lgG, if_neg (h k (Nat.le_refl _))]
    exact ih (k + 1) (fun t ht => h t (by omega))
theorem kt_lg_app {n i e : Nat} (f2 : Nat) : ∀ f1 k, kt_lgG n i e (f1 + f2) k = kt_lgG n i e f1 k ∨ ((∀ t, k ≤ t → t < k + f1 → (t * i) % n ≠ e) ∧ kt_lgG n i e f1 k = -4 ∧ kt_lgG n i e (f1 + f2) k = kt_lgG n i e f2 (k + f1)) := by
  intro f1
  induction f1 with
  | zero => intro k; exact Or.inr ⟨fun t h1 h2 => by omega, rfl, by rw [Nat.zero_add, Nat.add_zero]⟩
  | succ f1 ih =>
    intro k
    rw [show f1 + 1 + f2 = (f1 + f2) + 1 by omega, kt_lgG, kt_lgG]
    by_cases z : (k * i) % n = e
    · rw [if_pos z, if_pos z]; exact Or.inl rfl
    · rw [if_neg z, if_neg z]
      rcases ih (k + 1) with h | ⟨h1, h2, h3⟩
      · exact Or.inl h
      · refine Or.inr ⟨fun t ht1 ht2 => ?_, h2, by rw [h3, show k + 1 + f1 = k + (f1 + 1) by omega]⟩
        by_cases y : t = k
        · rw [y]; exact z
        · exact h1 t (by omega) (by omega)
theorem kt_lg_eq {c i e f : Nat} (hc : c < 2) (hi : i < kt_n c) (hf : kt_or c i ≤ f) : kt_lgG (kt_n c) i e f 0 = kt_lgG (kt_n c) i e (kt_or c i) 0 := by
  have ho := kt_or_ok hc hi
  have e1 : f = kt_or c i + (f - kt_or c i) := by omega
  rw [e1]
  rcases kt_lg_app (n := kt_n c) (i := i) (e := e) (f - kt_or c i) (kt_or c i) 0 with h | ⟨h1, h2, h3⟩
  · exact h
  · rw [h3, h2]
    refine kt_lg_none _ _ (fun t _ z => ?_)
    rw [← kt_modo ho.1 t] at z
    exact h1 (t % kt_or c i) (by omega) (by have := Nat.mod_lt t (show 0 < kt_or c i by omega); omega) z
theorem kt_ylgL {post : Int32 → Prop} {fn : Int32} {ai al : Nat → Int32} {c i e : Nat} (hc : c < 2) (ha : ∀ j, j < 128 → ai j = nI (kt_inv j)) (hi : i < kt_n c) (he : e < kt_n c) : ∀ d k, k + d = kt_or c i → post (kt_lgG (kt_n c) i e d k) → wY_log_32 post (nI (kt_pt c i)) (nI (kt_pt c e)) (nI (kt_or c i)) (nI c) fn ai al (d + 1) (nI (kt_pt c ((k * i) % kt_n c))) (nI k) := by
  have hn := kt_n_lt c
  have ho := kt_or_ok hc hi
  intro d
  induction d with
  | zero =>
    intro k hk h
    exact br_t (nI_le (by omega) (by omega)) h
  | succ d ih =>
    intro k hk h
    have hm : (k * i) % kt_n c < kt_n c := Nat.mod_lt _ (by omega)
    rw [kt_lgG] at h
    refine br_f (nI_ge (by omega) (by omega)) (br_c (fun z => ?_) (fun z => ?_))
    · rw [if_pos ((kt_ptE hc hm he).mp z)] at h; exact h
    · rw [if_neg (fun y => z ((kt_ptE hc hm he).mpr y))] at h
      refine kt_ysumT hc ha hm hi (nm_r (nI_1 k) ?_)
      rw [kt_step]
      exact ih (k + 1) (by omega) h
theorem kt_cancel {n A x y : Nat} (h : (A + x) % n = (A + y) % n) (hx : x < n) (hy : y < n) : x = y := by
  have h1 : (x + A) % n = (y + A) % n := by rw [Nat.add_comm x, Nat.add_comm y]; exact h
  have h2 := (Nat.mod_eq_mod_iff).mp h1
  obtain ⟨s, t, h3⟩ := h2
  have h4 : x + n * s = y + n * t := by
    have e1 : n * s = s * n := Nat.mul_comm _ _
    have e2 : n * t = t * n := Nat.mul_comm _ _
    omega
  have h5 : (x + n * s) % n = (y + n * t) % n := by rw [h4]
  rw [Nat.add_mul_mod_self_left, Nat.add_mul_mod_self_left, Nat.mod_eq_of_lt hx, Nat.mod_eq_of_lt hy] at h5
  exact h5
section
variable {post : Int32 → SX → Prop} {fn fm fa fb pa pb dg : Int32} {ad : Nat → Int32} {c i e b : Nat}
theorem kt_xlgI {J : Int32 → Int32 → Prop} {a g D : Nat} (hc : c < 2) (hi : i < kt_n c) (hb : b < kt_n c) (hg : g < kt_n c) (ha : a ≤ 12) (hge : (g + 12 * a * i) % kt_n c = e) (hJ : post (kt_lgG (kt_n c) i e D (12 * a + 12)) (nI c, fn, fm, fa, fb, pa, pb, dg, ad) → J (nI (kt_pt c ((g + b) % kt_n c))) (nI (a + 1))) : ∀ t j, j + t = 12 → post (kt_lgG (kt_n c) i e (t + D) (12 * a + j)) (nI c, fn, fm, fa, fb, pa, pb, dg, ad) → wX_log_54 post J (nI (kt_pt c i)) (nI (kt_pt c b)) (nI (kt_pt c g)) (nI a) (nI c) fn fm fa fb pa pb dg ad (t + 1) (nI (kt_pt c ((j * i) % kt_n c))) (nI j) := by
  have hn := kt_n_lt c
  intro t
  induction t with
  | zero =>
    intro j hj h
    have ej : j = 12 := by omega
    subst ej
    rw [Nat.zero_add] at h
    exact br_t (nI_le (a := 12) (by omega) (by omega)) (kt_xsumT hc hg hb (nm_r (nI_1 a) (hJ h)))
  | succ t ih =>
    intro j hj h
    have hm : (j * i) % kt_n c < kt_n c := Nat.mod_lt _ (by omega)
    have key : (j * i) % kt_n c = g ↔ ((12 * a + j) * i) % kt_n c = e := by
      rw [Nat.add_mul, ← Nat.add_mod_mod, ← hge, Nat.add_comm g]
      constructor
      · intro z; rw [z]
      · intro z; exact kt_cancel z hm hg
    rw [show t + 1 + D = (t + D) + 1 by omega, kt_lgG] at h
    refine br_f (nI_ge (b := 12) (by omega) (by decide)) (br_c (fun z => ?_) (fun z => ?_))
    · rw [if_pos (key.mp ((kt_ptE hc hm hg).mp z))] at h
      have e2 : (12 * nI a) + nI j = nI (12 * a + j) := by
        show (nI 12 * nI a) + nI j = _
        rw [pk_mul, nI_add]
      rw [e2]
      exact h
    · rw [if_neg (fun y => z ((kt_ptE hc hm hg).mpr (key.mpr y)))] at h
      refine kt_xsumT hc hm hi (nm_r (nI_1 j) ?_)
      rw [kt_step]
      exact ih (j + 1) (by omega) h
theorem kt_xlgL (hc : c < 2) (hi : i < kt_n c) (he : e < kt_n c) (hb : b < kt_n c) (hbe : (b + 12 * i) % kt_n c = 0) : ∀ d a g, a + d = 13 → g < kt_n c → (g + 12 * a * i) % kt_n c = e → post (kt_lgG (kt_n c) i e (12 * d) (12 * a)) (nI c, fn, fm, fa, fb, pa, pb, dg, ad) → wX_log_39 post (nI (kt_pt c i)) (nI (kt_pt c b)) (nI c) fn fm fa fb pa pb dg ad (d + 1) (nI (kt_pt c g)) (nI a) := by
  have hn := kt_n_lt c
  intro d
  induction d with
  | zero =>
    intro a g ha hg hge h
    exact br_t (nI_lt (a := 12) (by omega) (by omega)) h
  | succ d ih =>
    intro a g ha hg hge h
    refine br_f (nI_nlt (a := 12) (by omega) (by decide)) ?_
    rw [kt_O hc]
    have k := kt_xlgI (post := post) (fn := fn) (fm := fm) (fa := fa) (fb := fb) (pa := pa) (pb := pb) (dg := dg) (ad := ad) (J := wX_log_39 post (nI (kt_pt c i)) (nI (kt_pt c b)) (nI c) fn fm fa fb pa pb dg ad (d + 1)) (D := 12 * d) hc hi hb hg (by omega) hge (fun h2 => ih (a + 1) _ (by omega) (Nat.mod_lt _ (by omega)) ?_ h2) 12 0 (by omega) (by rw [Nat.add_zero, show 12 + 12 * d = 12 * (d + 1) by omega]; exact h)
    · rw [Nat.zero_mul, Nat.zero_mod] at k
      exact Exists.intro _ k
    · rw [Nat.mod_add_mod, show g + b + 12 * (a + 1) * i = (g + 12 * a * i) + (b + 12 * i) by rw [Nat.mul_add, Nat.add_mul]; omega, Nat.add_mod, hbe, Nat.add_zero, Nat.mod_mod]
      exact hge
end
end
section
/-! Y: next, half, halves; and the kernel checks that tie X's halves to them -/
theorem kt_nG_none {c st : Nat} (hc : c < 2) (h : 16384 < st) : kt_nG c st (kt_n c) 0 = -4 := by
  have e := kt_nG_skip (c := c) (st := st) (kt_n c) 0 (fun j hj => by have := kt_ls_le hc hj; omega) 0 (by omega)
  rw [show 0 + (kt_n c - 0) = kt_n c by omega] at e
  rw [e]
  rfl
def kt_hG (c i : Nat) : Nat → Nat → Int32
  | 0, _ => -4
  | d + 1, j => cond (Nat.beq (Nat.mod (Nat.add (kt_li c j) (kt_li c j)) (kt_n c)) i) (nI (kt_ls c j)) (kt_hG c i d (Nat.add j 1))
def kt_cG (c i : Nat) : Nat → Nat → Nat → Nat
  | 0, _, x => x
  | d + 1, j, x => kt_cG c i d (Nat.add j 1) (cond (Nat.beq (Nat.mod (Nat.add (kt_li c j) (kt_li c j)) (kt_n c)) i) (Nat.add x 1) x)
theorem kt_hC : kt_all (fun c => kt_all (fun i => decide (kt_h2 (kt_ho c (kt_pt c i) 0) (kt_ho c (kt_pt c i) 1) = kt_hG c i (kt_n c) 0)) (kt_n c)) 2 = true := by decide +kernel
theorem kt_cC : kt_all (fun c => kt_all (fun i => decide (kt_hc (kt_ho c (kt_pt c i) 0) (kt_ho c (kt_pt c i) 1) = nI (kt_cG c i (kt_n c) 0 0))) (kt_n c)) 2 = true := by decide +kernel
theorem kt_hT {c i : Nat} (hc : c < 2) (hi : i < kt_n c) : kt_h2 (kt_ho c (kt_pt c i) 0) (kt_ho c (kt_pt c i) 1) = kt_hG c i (kt_n c) 0 :=
  of_decide_eq_true (kt_allc (p := fun c i => decide (kt_h2 (kt_ho c (kt_pt c i) 0) (kt_ho c (kt_pt c i) 1) = kt_hG c i (kt_n c) 0)) (n := kt_n) kt_hC hc hi)
theorem kt_cTT {c i : Nat} (hc : c < 2) (hi : i < kt_n c) : kt_hc (kt_ho c (kt_pt c i) 0) (kt_ho c (kt_pt c i) 1) = nI (kt_cG c i (kt_n c) 0 0) :=
  of_decide_eq_true (kt_allc (p := fun c i => decide (kt_hc (kt_ho c (kt_pt c i) 0) (kt_ho c (kt_pt c i) 1) = nI (kt_cG c i (kt_n c) 0 0))) (n := kt_n) kt_cC hc hi)
section
variable {post : Int32 → Prop} {ai al : Nat → Int32} {c i st : Nat}
theorem kt_ynxL (hs : st < 2 ^ 31) (hc : c < 2) (hl : ∀ j, j < kt_n c → al j = nI (kt_ls c j)) : ∀ d j, j + d = kt_n c → post (kt_nG c st d j) → wY_next_2 post (nI st) (nI c) (nI (kt_n c)) ai al (d + 1) (nI j) := by
  have hn := kt_n_lt c
  intro d
  induction d with
  | zero =>
    intro j hj h
    exact br_t (nI_le (by omega) (by omega)) h
  | succ d ih =>
    intro j hj h
    have hin : vp_in (nI j) 300 := vp_in_nI (by omega) (by decide)
    have h16 := kt_ls_le hc (j := j) (by omega)
    refine br_f (nI_ge (by omega) (by omega)) (And.intro hin ?_)
    rw [nI_clamp (by omega), hl j (by omega)]
    refine pk_lt (kt_ls c j) st (fun z => nm_r (nI_1 j) (ih (j + 1) (by omega) ?_)) (fun z => And.intro hin ?_)
    · rw [kt_nG_F z] at h; exact h
    · rw [kt_nG_T z] at h; exact h
theorem kt_yhL (hc : c < 2) (ha : ∀ j, j < 128 → ai j = nI (kt_inv j)) (hl : ∀ j, j < kt_n c → al j = nI (kt_ls c j)) (hi : i < kt_n c) : ∀ d j, j + d = kt_n c → post (kt_hG c i d j) → wY_half_12 post (nI (kt_pt c i)) (nI c) (nI (kt_n c)) ai al (d + 1) (nI j) := by
  have hn := kt_n_lt c
  intro d
  induction d with
  | zero =>
    intro j hj h
    exact br_t (nI_le (by omega) (by omega)) h
  | succ d ih =>
    intro j hj h
    have hin : vp_in (nI j) 300 := vp_in_nI (by omega) (by decide)
    have hk := kt_li_ok hc (j := j) (by omega)
    have hm : (kt_li c j + kt_li c j) % kt_n c < kt_n c := Nat.mod_lt _ (by omega)
    refine br_f (nI_ge (by omega) (by omega)) (And.intro hin (And.intro hin ?_))
    rw [nI_clamp (by omega), hl j (by omega)]
    rw [kt_hG] at h
    have go : wpY_sum (fun r_10 => (r_10 = nI (kt_pt c i) → vp_in (nI j) 300 ∧ post (nI (kt_ls c j))) ∧ (¬ r_10 = nI (kt_pt c i) → ∀ x2_16 : Int32, x2_16 = nI j + 1 → wY_half_12 post (nI (kt_pt c i)) (nI c) (nI (kt_n c)) ai al (d + 1) x2_16)) (nI c, nI (kt_n c), ai, al) (nI (kt_pt c (kt_li c j))) (nI (kt_pt c (kt_li c j))) := by
      refine kt_ysumT hc ha hk.1 hk.1 (br_c (fun z => And.intro hin ?_) (fun z => nm_r (nI_1 j) (ih (j + 1) (by omega) ?_)))
      · have z2 := (kt_ptE hc hm hi).mp z
        rw [show Nat.beq (Nat.mod (Nat.add (kt_li c j) (kt_li c j)) (kt_n c)) i = true from kt_beqT z2] at h
        exact h
      · have z2 : ¬ (kt_li c j + kt_li c j) % kt_n c = i := fun y => z ((kt_ptE hc hm hi).mpr y)
        rw [show Nat.beq (Nat.mod (Nat.add (kt_li c j) (kt_li c j)) (kt_n c)) i = false from kt_beqF z2] at h
        exact h
    rw [hk.2] at go
    exact go
theorem kt_ycL (hc : c < 2) (ha : ∀ j, j < 128 → ai j = nI (kt_inv j)) (hl : ∀ j, j < kt_n c → al j = nI (kt_ls c j)) (hi : i < kt_n c) : ∀ d j x, j + d = kt_n c → post (nI (kt_cG c i d j x)) → wY_halves_14 post (nI (kt_pt c i)) (nI c) (nI (kt_n c)) ai al (d + 1) (nI x) (nI j) := by
  have hn := kt_n_lt c
  intro d
  induction d with
  | zero =>
    intro j x hj h
    exact br_t (nI_le (by omega) (by omega)) h
  | succ d ih =>
    intro j x hj h
    have hin : vp_in (nI j) 300 := vp_in_nI (by omega) (by decide)
    have hk := kt_li_ok hc (j := j) (by omega)
    have hm : (kt_li c j + kt_li c j) % kt_n c < kt_n c := Nat.mod_lt _ (by omega)
    refine br_f (nI_ge (by omega) (by omega)) (And.intro hin (And.intro hin ?_))
    rw [nI_clamp (by omega), hl j (by omega)]
    rw [kt_cG] at h
    have go : wpY_sum (fun r_10 => (r_10 = nI (kt_pt c i) → ∀ x2_17 : Int32, x2_17 = nI x + 1 → ∀ x3_18 : Int32, x3_18 = nI j + 1 → wY_halves_14 post (nI (kt_pt c i)) (nI c) (nI (kt_n c)) ai al (d + 1) x2_17 x3_18) ∧ (¬ r_10 = nI (kt_pt c i) → ∀ x3_16 : Int32, x3_16 = nI j + 1 → wY_halves_14 post (nI (kt_pt c i)) (nI c) (nI (kt_n c)) ai al (d + 1) (nI x) x3_16)) (nI c, nI (kt_n c), ai, al) (nI (kt_pt c (kt_li c j))) (nI (kt_pt c (kt_li c j))) := by
      refine kt_ysumT hc ha hk.1 hk.1 (br_c (fun z => nm_r (nI_1 x) (nm_r (nI_1 j) (ih (j + 1) (x + 1) (by omega) ?_))) (fun z => nm_r (nI_1 j) (ih (j + 1) x (by omega) ?_)))
      · have z2 := (kt_ptE hc hm hi).mp z
        rw [show Nat.beq (Nat.mod (Nat.add (kt_li c j) (kt_li c j)) (kt_n c)) i = true from kt_beqT z2] at h
        exact h
      · have z2 : ¬ (kt_li c j + kt_li c j) % kt_n c = i := fun y => z ((kt_ptE hc hm hi).mpr y)
        rw [show Nat.beq (Nat.mod (Nat.add (kt_li c j) (kt_li c j)) (kt_n c)) i = false from kt_beqF z2] at h
        exact h
    rw [hk.2] at go
    exact go
end
end
section
/-! the constructors -/
section
variable {post : SX → Prop} {fc fn fm fa fb pa pb dg x2 : Int32} {ad : Nat → Int32} {n i : Nat}
theorem kt_ist {u v : Int32} (u' v' : Int32) (hi : i < 7) (h1 : (-2) * v = u') (h2 : u + (x2 * v) = v') (h : wX_init_50 post x2 fc fn fm fa fb pa pb dg ad n u' v' (nI (i + 1))) : wX_init_50 post x2 fc fn fm fa fb pa pb dg ad (n + 1) u v (nI i) :=
  br_f (nI_ge (b := 7) hi (by decide)) (nm_r h1 (nm_r h2 (nm_r (nI_1 i) h)))
theorem kt_ie {u v : Int32} (a k : Int32) (h1 : u - 1 = a) (h2 : ((a * a) + ((x2 * a) * v)) + ((2 * v) * v) = k) (h : post (fc, k, fm, a, v, pa, pb, dg, ad)) : wX_init_50 post x2 fc fn fm fa fb pa pb dg ad (n + 1) u v (nI 7) :=
  br_t (nI_le (a := 7) (by decide) (by decide)) (nm_r h1 (nm_r h2 h))
end
theorem kt_xinit {post : SX → Prop} {p : Int32} {c : Nat} (hp : (1 ≤ p ∧ c = 1) ∨ (¬ 1 ≤ p ∧ c = 0)) (h : post (nI c, nI (kt_n c), kt_cm c, kt_cA c, kt_cB c, 0, 0, 0, fun _ => 0)) : wpX_init post p := by
  unfold wpX_init wX_init_23 wX_init_36
  rcases hp with ⟨hp, rfl⟩ | ⟨hp, rfl⟩
  · refine br_t hp (br_t hp (Exists.intro 8 ?_))
    exact kt_ist (i := 0) 0 1 (by decide) (by decide) (by decide) (kt_ist (i := 1) (-2) 1 (by decide) (by decide) (by decide) (kt_ist (i := 2) (-2) (-1) (by decide) (by decide) (by decide) (kt_ist (i := 3) 2 (-3) (by decide) (by decide) (by decide) (kt_ist (i := 4) 6 (-1) (by decide) (by decide) (by decide) (kt_ist (i := 5) 2 5 (by decide) (by decide) (by decide) (kt_ist (i := 6) (-10) 7 (by decide) (by decide) (by decide) (kt_ie (-11) 142 (by decide) (by decide) h)))))))
  · refine br_f hp (br_f hp (Exists.intro 8 ?_))
    exact kt_ist (i := 0) 0 1 (by decide) (by decide) (by decide) (kt_ist (i := 1) (-2) (-1) (by decide) (by decide) (by decide) (kt_ist (i := 2) 2 (-1) (by decide) (by decide) (by decide) (kt_ist (i := 3) 2 3 (by decide) (by decide) (by decide) (kt_ist (i := 4) (-6) (-1) (by decide) (by decide) (by decide) (kt_ist (i := 5) 2 (-5) (by decide) (by decide) (by decide) (kt_ist (i := 6) 10 7 (by decide) (by decide) (by decide) (kt_ie 9 116 (by decide) (by decide) h)))))))
def kt_ivc (b : Nat) : Nat → Nat → Nat → Bool
  | 0, _, v => Nat.beq v (kt_inv b)
  | d + 1, x, v => kt_ivc b d (Nat.add x 1) (cond (Nat.beq (kt_m b x) 1) x v)
theorem kt_ivC : kt_all (fun b => kt_ivc (Nat.add b 1) 127 1 0) 127 = true := by decide +kernel
section
variable {post : SY → Prop} {fa fn : Int32} {ai al : Nat → Int32} {b c x : Nat}
theorem kt_y47 {J : Int32 → (Nat → Int32) → (Nat → Int32) → Prop} (hb : b < 128) : ∀ d x v (ai : Nat → Int32), x + d = 128 → kt_ivc b d x v = true → ai b = nI v → (∀ ai', (∀ j, j ≠ b → ai' j = ai j) → ai' b = nI (kt_inv b) → J (nI (b + 1)) ai' al) → wY_init_47 post J (nI b) fa fn (d + 1) (nI x) ai al := by
  intro d
  induction d with
  | zero =>
    intro x v ai hx hv hai h
    refine br_t (nI_le (a := 128) (by omega) (by omega)) (nm_r (nI_1 b) (h ai (fun _ _ => rfl) ?_))
    rw [hai, show v = kt_inv b from Nat.eq_of_beq_eq_true hv]
  | succ d ih =>
    intro x v ai hx hv hai h
    have hin : vp_in (nI b) 128 := vp_in_nI hb (by decide)
    have hm := kt_m_lt b x
    rw [kt_ivc] at hv
    refine br_f (nI_ge (b := 128) (by omega) (by decide)) (kt_yprod hb (by omega) ?_)
    rw [nI_clamp (by omega)]
    refine pk_eq (kt_m b x) 1 (fun e => And.intro hin (nm_e (nm_r (nI_1 x) ?_))) (fun e => And.intro hin (And.intro hin (nm_e (nm_r (nI_1 x) ?_))))
    · rw [kt_cT e] at hv
      exact ih (x + 1) x _ (by omega) hv pk_us (fun ai' h1 h2 => h ai' (fun j hj => by rw [h1 j hj]; exact pk_un hj) h2)
    · rw [kt_cF e] at hv
      exact ih (x + 1) v _ (by omega) hv (by rw [pk_us]; exact hai) (fun ai' h1 h2 => h ai' (fun j hj => by rw [h1 j hj]; exact pk_un hj) h2)
theorem kt_y38 (h : ∀ ai', (∀ j, j < 128 → ai' j = nI (kt_inv j)) → ∃ n94 : Nat, wY_init_94 post fa n94 0 fn ai' al) : ∀ d b (ai : Nat → Int32), b + d = 128 → 1 ≤ b → (∀ j, j < b → ai j = nI (kt_inv j)) → (∀ j, b ≤ j → ai j = 0) → wY_init_38 post fa fn (d + 1) (nI b) ai al := by
  intro d
  induction d with
  | zero =>
    intro b ai hb h1 h2 h3
    exact br_t (nI_le (a := 128) (by omega) (by omega)) (h ai (fun j hj => h2 j (by omega)))
  | succ d ih =>
    intro b ai hb h1 h2 h3
    have hv := kt_all_ok kt_ivC (b - 1) (by omega)
    rw [show Nat.add (b - 1) 1 = b from Nat.sub_add_cancel h1] at hv
    refine br_f (nI_ge (b := 128) (by omega) (by decide)) (Exists.intro _ (kt_y47 (by omega) 127 1 0 ai (by omega) hv (h3 b (Nat.le_refl _)) (fun ai' h4 h5 => ih (b + 1) ai' (by omega) (by omega) (fun j hj => ?_) (fun j hj => ?_))))
    · by_cases e : j = b
      · rw [e]; exact h5
      · rw [h4 j e]; exact h2 j (by omega)
    · rw [h4 j (by omega)]; exact h3 j (by omega)
theorem kt_y103 {J : Int32 → Int32 → (Nat → Int32) → (Nat → Int32) → Prop} (hc : c < 2) (hx : x < 128) : ∀ d y k (al : Nat → Int32), y + d = 128 → kt_rowc c x d y k = true → (∀ j, j < k → al j = nI (kt_ls c j)) → (∀ al', (∀ j, j < kt_rk c (x + 1) → al' j = nI (kt_ls c j)) → J (nI (x + 1)) (nI (kt_rk c (x + 1))) ai al') → wY_init_103 post J (nI x) (nI c) (d + 1) (nI y) (nI k) ai al := by
  have hn := kt_n_lt c
  intro d
  induction d with
  | zero =>
    intro y k al hy hr hal h
    have e : k = kt_rk c (x + 1) := Nat.eq_of_beq_eq_true hr
    rw [e] at hal ⊢
    exact br_t (nI_le (a := 128) (by omega) (by omega)) (nm_r (nI_1 x) (h al hal))
  | succ d ih =>
    intro y k al hy hr hal h
    refine br_f (nI_ge (b := 128) (by omega) (by decide)) (kt_yon hc hx (by omega) (fun z => br_f (by decide) ?_) (fun z => br_t rfl (nm_r (nI_1 y) ?_)))
    · rcases kt_row_step hr with ⟨_, h2, h3, h4⟩ | ⟨z2, _⟩
      · refine br_f (nI_ge (b := 299) (by omega) (by decide)) (And.intro (vp_in_nI (by omega) (by decide)) ?_)
        rw [nI_clamp (by omega)]
        refine nm_e (nm_r (nI_1 k) (nm_r (nI_1 y) (ih (y + 1) (k + 1) _ (by omega) h4 (fun j hj => ?_) h)))
        by_cases e : j = k
        · rw [e, pk_us, h2]
          exact kt_pk128 x y
        · rw [pk_un e]
          exact hal j (by omega)
      · rw [z] at z2; exact kt_ff z2.symm
    · rcases kt_row_step hr with ⟨z2, _⟩ | ⟨_, h4⟩
      · rw [z] at z2; exact kt_ff z2
      · exact ih (y + 1) k al (by omega) h4 hal h
theorem kt_y94 (hc : c < 2) (h : ∀ al', (∀ j, j < kt_n c → al' j = nI (kt_ls c j)) → post (nI c, nI (kt_n c), ai, al')) : ∀ d x (al : Nat → Int32), x + d = 128 → (∀ j, j < kt_rk c x → al j = nI (kt_ls c j)) → wY_init_94 post (nI c) (d + 1) (nI x) (nI (kt_rk c x)) ai al := by
  have hn := kt_n_lt c
  have he := kt_rk_e hc
  intro d
  induction d with
  | zero =>
    intro x al hx hal
    have e : x = 128 := by omega
    subst e
    refine br_t (nI_le (a := 128) (by omega) (by omega)) (And.intro (vp_in_nI (by omega) (by decide)) ?_)
    rw [nI_clamp (by omega)]
    refine nm_e (nm_r (nI_1 _) ?_)
    rw [he]
    refine h _ (fun j hj => ?_)
    by_cases e : j = kt_rk c 128
    · rw [e, pk_us, kt_ls_e hc]; rfl
    · rw [pk_un e]; exact hal j (by omega)
  | succ d ih =>
    intro x al hx hal
    refine br_f (nI_ge (b := 128) (by omega) (by decide)) (Exists.intro _ (kt_y103 hc (by omega) 128 0 _ al (by omega) (kt_row hc (by omega)) hal (fun al' h2 => ih (x + 1) al' (by omega) h2)))
theorem kt_yinit {p : Int32} (hp : (1 ≤ p ∧ c = 1) ∨ (¬ 1 ≤ p ∧ c = 0)) (h : ∀ ai al, (∀ j, j < 128 → ai j = nI (kt_inv j)) → (∀ j, j < kt_n c → al j = nI (kt_ls c j)) → post (nI c, nI (kt_n c), ai, al)) : wpY_init post p := by
  have hc : c < 2 := by omega
  have go : ∃ n38 : Nat, wY_init_38 post (nI c) (nI 0) n38 (nI 1) (fun _ => 0) (fun _ => 0) := by
    refine Exists.intro _ (kt_y38 (fun ai' h1 => ?_) 127 1 _ (by decide) (by decide) (fun j hj => ?_) (fun _ _ => rfl))
    · have k := kt_y94 (post := post) (ai := ai') hc (fun al' h2 => h ai' al' h1 h2) 128 0 (fun _ => 0) (by decide) (fun j hj => by rw [kt_rk_0 hc] at hj; omega)
      rw [kt_rk_0 hc] at k
      exact Exists.intro _ k
    · have e : j = 0 := by omega
      rw [e]
      decide +kernel
  unfold wpY_init
  rcases hp with ⟨hp, rfl⟩ | ⟨hp, rfl⟩
  · exact br_t hp go
  · exact br_f hp go
end
end
section
/-! the public calls, each side, by the table -/
def kt_E (v : Int32) : Prop := ∃ a : Nat, a < 128 ∧ v = nI a
def kt_F (k : Int32) : Prop := ¬ k < (-1000000) ∧ ¬ 1000000 < k
theorem kt_E_neg {v : Int32} (h : v < 0) : ¬ kt_E v := by
  rintro ⟨a, ha, rfl⟩
  exact nI_pos (by omega) h
theorem kt_E_big {v : Int32} (h : 127 < v) : ¬ kt_E v := by
  rintro ⟨a, ha, rfl⟩
  exact nI_nlt (a := 127) (by omega) (by decide) h
theorem kt_E_in {v : Int32} (h0 : ¬ v < 0) (h1 : v < 128) : kt_E v := by
  obtain ⟨j, hj, rfl⟩ := nI_of h0
  exact ⟨j, (nI_ltI (b := 128) hj (by decide)).mp h1, rfl⟩
theorem kt_lt128 {v : Int32} : v < 128 ↔ ¬ 127 < v := by
  rw [Int32.lt_iff_toInt_lt, Int32.lt_iff_toInt_lt, show (128 : Int32).toInt = 128 by decide, show (127 : Int32).toInt = 127 by decide]
  omega
section
variable {post : Int32 → Prop} {fn fm fa fb pa pb dg : Int32} {ad ai al : Nat → Int32} {u : SX} {v : SY} {c i j a b : Nat} {p q k l : Int32}
theorem kt_xbe (h1 : kt_E p → post 0) (h0 : ¬ kt_E p → post 1) : wpX_badElement post u p := by
  obtain ⟨fc, fn, fm, fa, fb, pa, pb, dg, ad⟩ := u
  unfold wpX_badElement
  dsimp only
  exact br_c (fun z => h0 (kt_E_neg z)) (fun z => br_c (fun y => h1 (kt_E_in z y)) (fun y => h0 (fun w => by
    obtain ⟨a, ha, rfl⟩ := w
    exact y (nI_lt (b := 128) ha (by decide)))))
theorem kt_yie (h1 : kt_E p → post 1) (h0 : ¬ kt_E p → post 0) : wpY_isElement post v p := by
  obtain ⟨fa, fn, ai, al⟩ := v
  unfold wpY_isElement
  dsimp only
  exact br_c (fun z => h0 (kt_E_neg z)) (fun z => br_c (fun y => h0 (kt_E_big y)) (fun y => h1 (kt_E_in z (kt_lt128.mpr y))))
theorem kt_xbm (h1 : kt_F k → post 0) (h0 : ¬ kt_F k → post 1) : wpX_badMultiplier post u k := by
  obtain ⟨fc, fn, fm, fa, fb, pa, pb, dg, ad⟩ := u
  unfold wpX_badMultiplier
  dsimp only
  exact br_c (fun z => h0 (fun w => w.1 z)) (fun z => br_c (fun y => h1 ⟨z, Int32.not_lt.mpr y⟩) (fun y => h0 (fun w => y (Int32.not_lt.mp w.2))))
theorem kt_yif (h1 : kt_F k → post 1) (h0 : ¬ kt_F k → post 0) : wpY_isFactor post v k := by
  obtain ⟨fa, fn, ai, al⟩ := v
  unfold wpY_isFactor
  dsimp only
  exact br_c (fun z => h0 (fun w => w.1 z)) (fun z => br_c (fun y => h0 (fun w => w.2 y)) (fun y => h1 ⟨z, y⟩))
theorem kt_xtimesP (ha : a < 128) (hb : b < 128) (h : post (nI (kt_m a b))) : wpX_times post u (nI a) (nI b) := by
  obtain ⟨fc, fn, fm, fa, fb, pa, pb, dg, ad⟩ := u
  unfold wpX_times
  dsimp only
  exact kt_xbe (fun _ => br_t rfl (kt_xbe (fun _ => br_t rfl (kt_xmul ha hb h)) (fun z => absurd ⟨b, hb, rfl⟩ z))) (fun z => absurd ⟨a, ha, rfl⟩ z)
theorem kt_xtimesN (hN : ¬ (kt_E p ∧ kt_E q)) (h : post (-1)) : wpX_times post u p q := by
  obtain ⟨fc, fn, fm, fa, fb, pa, pb, dg, ad⟩ := u
  unfold wpX_times
  dsimp only
  exact kt_xbe (fun z1 => br_t rfl (kt_xbe (fun z2 => absurd ⟨z1, z2⟩ hN) (fun _ => br_f (by decide) h))) (fun _ => br_f (by decide) h)
theorem kt_ytimesP (ha : a < 128) (hb : b < 128) (h : post (nI (kt_m a b))) : wpY_times post v (nI a) (nI b) := by
  obtain ⟨fa, fn, ai, al⟩ := v
  unfold wpY_times
  dsimp only
  exact kt_yie (fun _ => br_f (by decide) (kt_yie (fun _ => br_f (by decide) (kt_yprod ha hb h)) (fun z => absurd ⟨b, hb, rfl⟩ z))) (fun z => absurd ⟨a, ha, rfl⟩ z)
theorem kt_ytimesN (hN : ¬ (kt_E p ∧ kt_E q)) (h : post (-1)) : wpY_times post v p q := by
  obtain ⟨fa, fn, ai, al⟩ := v
  unfold wpY_times
  dsimp only
  exact kt_yie (fun z1 => br_f (by decide) (kt_yie (fun z2 => absurd ⟨z1, z2⟩ hN) (fun _ => br_t rfl h))) (fun _ => br_t rfl h)
theorem kt_xoverP (ha : a < 128) (hb : b < 128) (h0 : b ≠ 0) (h : post (nI (kt_m a (kt_inv b)))) : wpX_over post u (nI a) (nI b) := by
  obtain ⟨fc, fn, fm, fa, fb, pa, pb, dg, ad⟩ := u
  unfold wpX_over
  dsimp only
  exact kt_xbe (fun _ => br_t rfl (kt_xbe (fun _ => br_t rfl (br_f (nI_ne0 (by omega) (by omega)) (kt_xquot ha hb h))) (fun z => absurd ⟨b, hb, rfl⟩ z))) (fun z => absurd ⟨a, ha, rfl⟩ z)
theorem kt_xoverN (hN : ¬ (kt_E p ∧ kt_E q ∧ q ≠ 0)) (h : post (-1)) : wpX_over post u p q := by
  obtain ⟨fc, fn, fm, fa, fb, pa, pb, dg, ad⟩ := u
  unfold wpX_over
  dsimp only
  exact kt_xbe (fun z1 => br_t rfl (kt_xbe (fun z2 => br_t rfl (br_c (fun _ => h) (fun z3 => absurd ⟨z1, z2, z3⟩ hN))) (fun _ => br_f (by decide) h))) (fun _ => br_f (by decide) h)
theorem kt_yoverP (hi : ∀ j, j < 128 → ai j = nI (kt_inv j)) (ha : a < 128) (hb : b < 128) (h0 : b ≠ 0) (h : post (nI (kt_m a (kt_inv b)))) : wpY_over post (fa, fn, ai, al) (nI a) (nI b) := by
  unfold wpY_over
  dsimp only
  exact kt_yie (fun _ => br_f (by decide) (kt_yie (fun _ => br_f (by decide) (br_f (nI_ne0 (by omega) (by omega)) (kt_yquot ha hb hi h))) (fun z => absurd ⟨b, hb, rfl⟩ z))) (fun z => absurd ⟨a, ha, rfl⟩ z)
theorem kt_yoverN (hN : ¬ (kt_E p ∧ kt_E q ∧ q ≠ 0)) (h : post (-1)) : wpY_over post v p q := by
  obtain ⟨fa, fn, ai, al⟩ := v
  unfold wpY_over
  dsimp only
  exact kt_yie (fun z1 => br_f (by decide) (kt_yie (fun z2 => br_f (by decide) (br_c (fun _ => h) (fun z3 => absurd ⟨z1, z2, z3⟩ hN))) (fun _ => br_t rfl h))) (fun _ => br_t rfl h)
theorem kt_xisP (hc : c < 2) (h1 : kt_P c p → post 1) (h0 : ¬ kt_P c p → post 0) : wpX_isPoint post (nI c, fn, fm, fa, fb, pa, pb, dg, ad) p := by
  unfold wpX_isPoint
  dsimp only
  exact kt_xbad hc (fun z => br_t rfl (h1 z)) (fun z => br_f (by decide) (h0 z))
theorem kt_xaddP (hc : c < 2) (hi : i < kt_n c) (hj : j < kt_n c) (h : post (nI (kt_pt c ((i + j) % kt_n c)))) : wpX_add post (nI c, fn, fm, fa, fb, pa, pb, dg, ad) (nI (kt_pt c i)) (nI (kt_pt c j)) := by
  unfold wpX_add
  dsimp only
  exact kt_xbad hc (fun _ => br_t rfl (kt_xbad hc (fun _ => br_t rfl (kt_xsumT hc hi hj h)) (fun z => absurd ⟨j, hj, rfl⟩ z))) (fun z => absurd ⟨i, hi, rfl⟩ z)
theorem kt_xaddN (hc : c < 2) (hN : ¬ (kt_P c p ∧ kt_P c q)) (h : post (-1)) : wpX_add post (nI c, fn, fm, fa, fb, pa, pb, dg, ad) p q := by
  unfold wpX_add
  dsimp only
  exact kt_xbad hc (fun z1 => br_t rfl (kt_xbad hc (fun z2 => absurd ⟨z1, z2⟩ hN) (fun _ => br_f (by decide) h))) (fun _ => br_f (by decide) h)
theorem kt_yaddP (hc : c < 2) (ha : ∀ j, j < 128 → ai j = nI (kt_inv j)) (hi : i < kt_n c) (hj : j < kt_n c) (h : post (nI (kt_pt c ((i + j) % kt_n c)))) : wpY_add post (nI c, fn, ai, al) (nI (kt_pt c i)) (nI (kt_pt c j)) := by
  unfold wpY_add
  dsimp only
  exact kt_yisP hc (fun _ => br_f (by decide) (kt_yisP hc (fun _ => br_f (by decide) (kt_ysumT hc ha hi hj h)) (fun z => absurd ⟨j, hj, rfl⟩ z))) (fun z => absurd ⟨i, hi, rfl⟩ z)
theorem kt_yaddN (hc : c < 2) (hN : ¬ (kt_P c p ∧ kt_P c q)) (h : post (-1)) : wpY_add post (nI c, fn, ai, al) p q := by
  unfold wpY_add
  dsimp only
  exact kt_yisP hc (fun z1 => br_f (by decide) (kt_yisP hc (fun z2 => absurd ⟨z1, z2⟩ hN) (fun _ => br_t rfl h))) (fun _ => br_t rfl h)
theorem kt_xneg (hc : c < 2) (h1 : ∀ i, i < kt_n c → p = nI (kt_pt c i) → post (nI (kt_pt c ((kt_n c - i) % kt_n c)))) (h0 : ¬ kt_P c p → post (-1)) : wpX_negate post (nI c, fn, fm, fa, fb, pa, pb, dg, ad) p := by
  unfold wpX_negate
  dsimp only
  refine kt_xbad hc (fun z => br_t rfl ?_) (fun z => br_f (by decide) (h0 z))
  obtain ⟨i, hi, rfl⟩ := z
  exact kt_xmiT hc hi (h1 i hi rfl)
theorem kt_yneg (hc : c < 2) (h1 : ∀ i, i < kt_n c → p = nI (kt_pt c i) → post (nI (kt_pt c ((kt_n c - i) % kt_n c)))) (h0 : ¬ kt_P c p → post (-1)) : wpY_negate post (nI c, fn, ai, al) p := by
  unfold wpY_negate
  dsimp only
  refine kt_yisP hc (fun z => br_f (by decide) ?_) (fun z => br_t rfl (h0 z))
  obtain ⟨i, hi, rfl⟩ := z
  exact kt_yngT hc hi (h1 i hi rfl)
theorem kt_xsquare (hc : c < 2) (h1 : ∀ p' : Nat, p' ≤ 16384 → kt_P c (nI p') → p = nI p' → post (nI (kt_sq p'))) (h0 : ¬ kt_P c p → post (-1)) : wpX_square post (nI c, fn, fm, fa, fb, pa, pb, dg, ad) p := by
  unfold wpX_square
  dsimp only
  refine kt_xbad hc (fun z => br_t rfl ?_) (fun z => br_f (by decide) (h0 z))
  obtain ⟨i, hi, rfl⟩ := z
  exact kt_xsq (kt_pt_le hc hi) (h1 _ (kt_pt_le hc hi) ⟨i, hi, rfl⟩ rfl)
theorem kt_ysquareP {p : Nat} (hc : c < 2) (hp : p ≤ 16384) (hP : kt_P c (nI p)) (h : post (nI (kt_sq p))) : wpY_square post (nI c, fn, ai, al) (nI p) := by
  unfold wpY_square
  dsimp only
  refine kt_yisP hc (fun _ => br_f (by decide) (And.intro kt_n128 (nm_r (kt_d128 hp) (And.intro kt_n128 (nm_r (kt_r128 hp) (pk_eq p 16384 (fun e => ?_) (fun e => ?_))))))) (fun z => absurd hP z)
  · rw [kt_sq, kt_cT e] at h; exact h
  · rw [kt_sq, kt_cF e] at h
    refine kt_yprod (by omega) (by omega) (kt_yprod (by omega) (by omega) ?_)
    rw [kt_pk128]
    exact h
theorem kt_ysquareN (hc : c < 2) (hN : ¬ kt_P c p) (h : post (-1)) : wpY_square post (nI c, fn, ai, al) p := by
  unfold wpY_square
  dsimp only
  exact kt_yisP hc (fun z => absurd z hN) (fun _ => br_t rfl h)
theorem kt_xhalfN (hc : c < 2) (hN : ¬ kt_P c p) (h : post (-1)) : wpX_half post (nI c, fn, fm, fa, fb, pa, pb, dg, ad) p := by
  unfold wpX_half
  dsimp only
  exact kt_xbad hc (fun z => absurd z hN) (fun _ => br_f (by decide) h)
theorem kt_xhalvesN (hc : c < 2) (hN : ¬ kt_P c p) (h : post (-1)) : wpX_halves post (nI c, fn, fm, fa, fb, pa, pb, dg, ad) p := by
  unfold wpX_halves
  dsimp only
  exact kt_xbad hc (fun z => absurd z hN) (fun _ => br_f (by decide) h)
theorem kt_yhalfP (hc : c < 2) (ha : ∀ j, j < 128 → ai j = nI (kt_inv j)) (hl : ∀ j, j < kt_n c → al j = nI (kt_ls c j)) (hi : i < kt_n c) (h : post (kt_hG c i (kt_n c) 0)) : wpY_half post (nI c, nI (kt_n c), ai, al) (nI (kt_pt c i)) := by
  unfold wpY_half
  dsimp only
  exact kt_yisP hc (fun _ => br_f (by decide) (Exists.intro _ (kt_yhL hc ha hl hi (kt_n c) 0 (by omega) h))) (fun z => absurd ⟨i, hi, rfl⟩ z)
theorem kt_yhalfN (hc : c < 2) (hN : ¬ kt_P c p) (h : post (-1)) : wpY_half post (nI c, fn, ai, al) p := by
  unfold wpY_half
  dsimp only
  exact kt_yisP hc (fun z => absurd z hN) (fun _ => br_t rfl h)
theorem kt_yhalvesP (hc : c < 2) (ha : ∀ j, j < 128 → ai j = nI (kt_inv j)) (hl : ∀ j, j < kt_n c → al j = nI (kt_ls c j)) (hi : i < kt_n c) (h : post (nI (kt_cG c i (kt_n c) 0 0))) : wpY_halves post (nI c, nI (kt_n c), ai, al) (nI (kt_pt c i)) := by
  unfold wpY_halves
  dsimp only
  exact kt_yisP hc (fun _ => br_f (by decide) (Exists.intro _ (kt_ycL hc ha hl hi (kt_n c) 0 0 (by omega) h))) (fun z => absurd ⟨i, hi, rfl⟩ z)
theorem kt_yhalvesN (hc : c < 2) (hN : ¬ kt_P c p) (h : post (-1)) : wpY_halves post (nI c, fn, ai, al) p := by
  unfold wpY_halves
  dsimp only
  exact kt_yisP hc (fun z => absurd z hN) (fun _ => br_t rfl h)
theorem kt_ymulP {r : Nat} (hc : c < 2) (ha : ∀ j, j < 128 → ai j = nI (kt_inv j)) (hi : i < kt_n c) (hF : kt_F k) (hk : kt_res c k r) (h : post (nI (kt_pt c ((r * i) % kt_n c)))) : wpY_multiple post (nI c, fn, ai, al) k (nI (kt_pt c i)) := by
  unfold wpY_multiple
  dsimp only
  exact kt_yisP hc (fun _ => br_f (by decide) (kt_yif (fun _ => br_f (by decide) (kt_ymy hc ha hi hk h)) (fun z => absurd hF z))) (fun z => absurd ⟨i, hi, rfl⟩ z)
theorem kt_ymulN (hc : c < 2) (hN : ¬ (kt_P c p ∧ kt_F k)) (h : post (-1)) : wpY_multiple post (nI c, fn, ai, al) k p := by
  unfold wpY_multiple
  dsimp only
  exact kt_yisP hc (fun z1 => br_f (by decide) (kt_yif (fun z2 => absurd ⟨z1, z2⟩ hN) (fun _ => br_t rfl h))) (fun _ => br_t rfl h)
theorem kt_ycomP {r s : Nat} (hc : c < 2) (ha : ∀ j, j < 128 → ai j = nI (kt_inv j)) (hi : i < kt_n c) (hj : j < kt_n c) (hF : kt_F k) (hk : kt_res c k r) (hG : kt_F l) (hl : kt_res c l s) (h : post (nI (kt_pt c (((r * i) % kt_n c + (s * j) % kt_n c) % kt_n c)))) : wpY_combine post (nI c, fn, ai, al) k (nI (kt_pt c i)) l (nI (kt_pt c j)) := by
  have hn := kt_n_lt c
  unfold wpY_combine
  dsimp only
  exact kt_yisP hc (fun _ => br_f (by decide) (kt_yisP hc (fun _ => br_f (by decide) (kt_yif (fun _ => br_f (by decide) (kt_yif (fun _ => br_f (by decide) (kt_ymy hc ha hi hk (kt_ymy hc ha hj hl (kt_ysumT hc ha (Nat.mod_lt _ (by omega)) (Nat.mod_lt _ (by omega)) h)))) (fun z => absurd hG z))) (fun z => absurd hF z))) (fun z => absurd ⟨j, hj, rfl⟩ z))) (fun z => absurd ⟨i, hi, rfl⟩ z)
theorem kt_ycomN (hc : c < 2) (hN : ¬ (kt_P c p ∧ kt_P c q ∧ kt_F k ∧ kt_F l)) (h : post (-1)) : wpY_combine post (nI c, fn, ai, al) k p l q := by
  unfold wpY_combine
  dsimp only
  exact kt_yisP hc (fun z1 => br_f (by decide) (kt_yisP hc (fun z2 => br_f (by decide) (kt_yif (fun z3 => br_f (by decide) (kt_yif (fun z4 => absurd ⟨z1, z2, z3, z4⟩ hN) (fun _ => br_t rfl h))) (fun _ => br_t rfl h))) (fun _ => br_t rfl h))) (fun _ => br_t rfl h)
theorem kt_yordP (hc : c < 2) (ha : ∀ j, j < 128 → ai j = nI (kt_inv j)) (hi : i < kt_n c) (h : post (nI (kt_or c i))) : wpY_order post (nI c, fn, ai, al) (nI (kt_pt c i)) := by
  unfold wpY_order
  dsimp only
  exact kt_yisP hc (fun _ => br_f (by decide) (kt_yor hc ha hi h)) (fun z => absurd ⟨i, hi, rfl⟩ z)
theorem kt_yordN (hc : c < 2) (hN : ¬ kt_P c p) (h : post (-1)) : wpY_order post (nI c, fn, ai, al) p := by
  unfold wpY_order
  dsimp only
  exact kt_yisP hc (fun z => absurd z hN) (fun _ => br_t rfl h)
theorem kt_ylogP (hc : c < 2) (ha : ∀ j, j < 128 → ai j = nI (kt_inv j)) (hi : i < kt_n c) (hj : j < kt_n c) (h : post (kt_lgG (kt_n c) i j (kt_or c i) 0)) : wpY_log post (nI c, fn, ai, al) (nI (kt_pt c i)) (nI (kt_pt c j)) := by
  unfold wpY_log
  dsimp only
  refine kt_yisP hc (fun _ => br_f (by decide) (kt_yisP hc (fun _ => br_f (by decide) (kt_yor hc ha hi ?_)) (fun z => absurd ⟨j, hj, rfl⟩ z))) (fun z => absurd ⟨i, hi, rfl⟩ z)
  have k := kt_ylgL (fn := fn) (al := al) hc ha hi hj (kt_or c i) 0 (by omega) h
  rw [Nat.zero_mul, Nat.zero_mod, ← kt_O hc] at k
  exact Exists.intro _ k
theorem kt_ylogN (hc : c < 2) (hN : ¬ (kt_P c p ∧ kt_P c q)) (h : post (-1)) : wpY_log post (nI c, fn, ai, al) p q := by
  unfold wpY_log
  dsimp only
  exact kt_yisP hc (fun z1 => br_f (by decide) (kt_yisP hc (fun z2 => absurd ⟨z1, z2⟩ hN) (fun _ => br_t rfl h))) (fun _ => br_t rfl h)
end
section
variable {post : Int32 → SX → Prop} {fn fm fa fb pa pb dg : Int32} {ad : Nat → Int32} {c i j : Nat} {p q k l : Int32}
theorem kt_xmulP {r : Nat} (hc : c < 2) (hi : i < kt_n c) (hF : kt_F k) (hk : kt_res c k r) (h : ∀ pa pb dg ad, post (nI (kt_pt c ((r * i) % kt_n c))) (nI c, nI (kt_n c), kt_cm c, kt_cA c, kt_cB c, pa, pb, dg, ad)) : wpX_multiple post (nI c, nI (kt_n c), kt_cm c, kt_cA c, kt_cB c, pa, pb, dg, ad) k (nI (kt_pt c i)) := by
  unfold wpX_multiple
  dsimp only
  exact kt_xbad hc (fun _ => br_t rfl (kt_xbm (fun _ => br_t rfl (kt_xml hc hi hk h)) (fun z => absurd hF z))) (fun z => absurd ⟨i, hi, rfl⟩ z)
theorem kt_xmulN (hc : c < 2) (hN : ¬ (kt_P c p ∧ kt_F k)) (h : post (-1) (nI c, fn, fm, fa, fb, pa, pb, dg, ad)) : wpX_multiple post (nI c, fn, fm, fa, fb, pa, pb, dg, ad) k p := by
  unfold wpX_multiple
  dsimp only
  exact kt_xbad hc (fun z1 => br_t rfl (kt_xbm (fun z2 => absurd ⟨z1, z2⟩ hN) (fun _ => br_f (by decide) h))) (fun _ => br_f (by decide) h)
theorem kt_xcomP {r s : Nat} (hc : c < 2) (hi : i < kt_n c) (hj : j < kt_n c) (hF : kt_F k) (hk : kt_res c k r) (hG : kt_F l) (hl : kt_res c l s) (h : ∀ pa pb dg ad, post (nI (kt_pt c (((r * i) % kt_n c + (s * j) % kt_n c) % kt_n c))) (nI c, nI (kt_n c), kt_cm c, kt_cA c, kt_cB c, pa, pb, dg, ad)) : wpX_combine post (nI c, nI (kt_n c), kt_cm c, kt_cA c, kt_cB c, pa, pb, dg, ad) k (nI (kt_pt c i)) l (nI (kt_pt c j)) := by
  have hn := kt_n_lt c
  unfold wpX_combine
  dsimp only
  refine kt_xbad hc (fun _ => br_t rfl (kt_xbad hc (fun _ => br_t rfl (kt_xbm (fun _ => br_t rfl (kt_xbm (fun _ => br_t rfl ?_) (fun z => absurd hG z))) (fun z => absurd hF z))) (fun z => absurd ⟨j, hj, rfl⟩ z))) (fun z => absurd ⟨i, hi, rfl⟩ z)
  refine kt_xml hc hi hk (fun pa pb dg ad => ?_)
  dsimp only
  refine kt_xml hc hj hl (fun pa pb dg ad => ?_)
  dsimp only
  exact kt_xsumT hc (Nat.mod_lt _ (by omega)) (Nat.mod_lt _ (by omega)) (h pa pb dg ad)
theorem kt_xcomN (hc : c < 2) (hN : ¬ (kt_P c p ∧ kt_P c q ∧ kt_F k ∧ kt_F l)) (h : post (-1) (nI c, fn, fm, fa, fb, pa, pb, dg, ad)) : wpX_combine post (nI c, fn, fm, fa, fb, pa, pb, dg, ad) k p l q := by
  unfold wpX_combine
  dsimp only
  exact kt_xbad hc (fun z1 => br_t rfl (kt_xbad hc (fun z2 => br_t rfl (kt_xbm (fun z3 => br_t rfl (kt_xbm (fun z4 => absurd ⟨z1, z2, z3, z4⟩ hN) (fun _ => br_f (by decide) h))) (fun _ => br_f (by decide) h))) (fun _ => br_f (by decide) h))) (fun _ => br_f (by decide) h)
theorem kt_xordP (hc : c < 2) (hi : i < kt_n c) (h : ∀ pa pb dg ad, post (nI (kt_or c i)) (nI c, nI (kt_n c), kt_cm c, kt_cA c, kt_cB c, pa, pb, dg, ad)) : wpX_order post (nI c, nI (kt_n c), kt_cm c, kt_cA c, kt_cB c, pa, pb, dg, ad) (nI (kt_pt c i)) := by
  have ho := kt_or_ok hc hi
  unfold wpX_order
  dsimp only
  exact kt_xbad hc (fun _ => br_t rfl (Exists.intro _ (kt_xorL hc hi h (kt_or c i - 1) 1 (by omega) (by omega) pa pb dg ad))) (fun z => absurd ⟨i, hi, rfl⟩ z)
theorem kt_xordN (hc : c < 2) (hN : ¬ kt_P c p) (h : post (-1) (nI c, fn, fm, fa, fb, pa, pb, dg, ad)) : wpX_order post (nI c, fn, fm, fa, fb, pa, pb, dg, ad) p := by
  unfold wpX_order
  dsimp only
  exact kt_xbad hc (fun z => absurd z hN) (fun _ => br_f (by decide) h)
theorem kt_xlogP (hc : c < 2) (hi : i < kt_n c) (hj : j < kt_n c) (h : ∀ pa pb dg ad, post (kt_lgG (kt_n c) i j (kt_or c i) 0) (nI c, nI (kt_n c), kt_cm c, kt_cA c, kt_cB c, pa, pb, dg, ad)) : wpX_log post (nI c, nI (kt_n c), kt_cm c, kt_cA c, kt_cB c, pa, pb, dg, ad) (nI (kt_pt c i)) (nI (kt_pt c j)) := by
  have hn := kt_n_lt c
  have ho := kt_or_ok hc hi
  unfold wpX_log
  dsimp only
  refine kt_xbad hc (fun _ => br_t rfl (kt_xbad hc (fun _ => br_t rfl ?_) (fun z => absurd ⟨j, hj, rfl⟩ z))) (fun z => absurd ⟨i, hi, rfl⟩ z)
  refine kt_xml (k := 12) hc hi (r := 12 % kt_n c) (Or.inl ⟨12, by omega, rfl, rfl⟩) (fun pa pb dg ad => ?_)
  dsimp only
  rw [Nat.mod_mul_mod]
  have hb : (kt_n c - (12 * i) % kt_n c) % kt_n c < kt_n c := Nat.mod_lt _ (by omega)
  refine kt_xmiT hc (Nat.mod_lt _ (by omega)) (Exists.intro 14 (kt_xlgL hc hi hj hb ?_ 13 0 j rfl hj ?_ ?_))
  · have hX : (12 * i) % kt_n c < kt_n c := Nat.mod_lt _ (by omega)
    rw [Nat.mod_add_mod, ← Nat.add_mod_mod, Nat.sub_add_cancel (Nat.le_of_lt hX), Nat.mod_self]
  · rw [Nat.mul_zero, Nat.zero_mul, Nat.add_zero, Nat.mod_eq_of_lt hj]
  · have e := kt_lg_eq (c := c) (i := i) (e := j) (f := 12 * 13) hc hi (by omega)
    show post (kt_lgG (kt_n c) i j (12 * 13) 0) _
    rw [e]
    exact h pa pb dg ad
theorem kt_xlogN (hc : c < 2) (hN : ¬ (kt_P c p ∧ kt_P c q)) (h : post (-1) (nI c, fn, fm, fa, fb, pa, pb, dg, ad)) : wpX_log post (nI c, fn, fm, fa, fb, pa, pb, dg, ad) p q := by
  unfold wpX_log
  dsimp only
  exact kt_xbad hc (fun z1 => br_t rfl (kt_xbad hc (fun z2 => absurd ⟨z1, z2⟩ hN) (fun _ => br_f (by decide) h))) (fun _ => br_f (by decide) h)
end
end
section
/-! what is owed -/
def i_Rel (k : Nat) (u : SX) (v : SY) : Prop := ∃ (c : Nat) (pa pb dg : Int32) (ad ai al : Nat → Int32), c < 2 ∧ u = (nI c, nI (kt_n c), kt_cm c, kt_cA c, kt_cB c, pa, pb, dg, ad) ∧ v = (nI c, nI (kt_n c), ai, al) ∧ (∀ j, j < 128 → ai j = nI (kt_inv j)) ∧ (∀ j, j < kt_n c → al j = nI (kt_ls c j))
theorem i_up {k : Nat} {u : SX} {v : SY} (h : i_Rel k u v) : i_Rel (k + 5) u v := h
theorem i_vc0 (k0 : Int32) : wpX_init (fun u => wpY_init (fun v => i_Rel 1 u v) k0) k0 := by
  by_cases hp : 1 ≤ k0
  · exact kt_xinit (c := 1) (Or.inl ⟨hp, rfl⟩) (kt_yinit (c := 1) (Or.inl ⟨hp, rfl⟩) (fun ai al ha hl => ⟨1, 0, 0, 0, fun _ => 0, ai, al, by decide, rfl, rfl, ha, hl⟩))
  · exact kt_xinit (c := 0) (Or.inr ⟨hp, rfl⟩) (kt_yinit (c := 0) (Or.inr ⟨hp, rfl⟩) (fun ai al ha hl => ⟨0, 0, 0, 0, fun _ => 0, ai, al, by decide, rfl, rfl, ha, hl⟩))
theorem i_vc_times {k : Nat} {u : SX} {v : SY} (I : i_Rel k u v) (hk : k + 5 ≤ 2561) (v1 : Int32) (v2 : Int32) : wpX_times (fun r => wpY_times (fun r' => r' = r ∧ i_Rel (k + 5) u v) v v1 v2) u v1 v2 := by
  obtain ⟨c, pa, pb, dg, ad, ai, al, hc, rfl, rfl, ha, hl⟩ := I
  have hn := kt_n_lt c
  have R : ∀ pa pb dg ad, i_Rel (k + 5) (nI c, nI (kt_n c), kt_cm c, kt_cA c, kt_cB c, pa, pb, dg, ad) (nI c, nI (kt_n c), ai, al) := fun pa pb dg ad => ⟨c, pa, pb, dg, ad, ai, al, hc, rfl, rfl, ha, hl⟩
  by_cases e : kt_E v1 ∧ kt_E v2
  · obtain ⟨⟨a, h1, rfl⟩, ⟨b, h2, rfl⟩⟩ := e
    exact kt_xtimesP h1 h2 (kt_ytimesP h1 h2 ⟨rfl, R _ _ _ _⟩)
  · exact kt_xtimesN e (kt_ytimesN e ⟨rfl, R _ _ _ _⟩)
theorem i_vc_over {k : Nat} {u : SX} {v : SY} (I : i_Rel k u v) (hk : k + 5 ≤ 2561) (v1 : Int32) (v2 : Int32) : wpX_over (fun r => wpY_over (fun r' => r' = r ∧ i_Rel (k + 5) u v) v v1 v2) u v1 v2 := by
  obtain ⟨c, pa, pb, dg, ad, ai, al, hc, rfl, rfl, ha, hl⟩ := I
  have hn := kt_n_lt c
  have R : ∀ pa pb dg ad, i_Rel (k + 5) (nI c, nI (kt_n c), kt_cm c, kt_cA c, kt_cB c, pa, pb, dg, ad) (nI c, nI (kt_n c), ai, al) := fun pa pb dg ad => ⟨c, pa, pb, dg, ad, ai, al, hc, rfl, rfl, ha, hl⟩
  by_cases e : kt_E v1 ∧ kt_E v2 ∧ v2 ≠ 0
  · obtain ⟨⟨a, h1, rfl⟩, ⟨b, h2, rfl⟩, h3⟩ := e
    have h4 : b ≠ 0 := fun z => h3 (by rw [z]; rfl)
    exact kt_xoverP h1 h2 h4 (kt_yoverP ha h1 h2 h4 ⟨rfl, R _ _ _ _⟩)
  · exact kt_xoverN e (kt_yoverN e ⟨rfl, R _ _ _ _⟩)
theorem i_vc_isPoint {k : Nat} {u : SX} {v : SY} (I : i_Rel k u v) (hk : k + 5 ≤ 2561) (v1 : Int32) : wpX_isPoint (fun r => wpY_isPoint (fun r' => r' = r ∧ i_Rel (k + 5) u v) v v1) u v1 := by
  obtain ⟨c, pa, pb, dg, ad, ai, al, hc, rfl, rfl, ha, hl⟩ := I
  have hn := kt_n_lt c
  have R : ∀ pa pb dg ad, i_Rel (k + 5) (nI c, nI (kt_n c), kt_cm c, kt_cA c, kt_cB c, pa, pb, dg, ad) (nI c, nI (kt_n c), ai, al) := fun pa pb dg ad => ⟨c, pa, pb, dg, ad, ai, al, hc, rfl, rfl, ha, hl⟩
  exact kt_xisP hc (fun z => kt_yisP hc (fun _ => ⟨rfl, R _ _ _ _⟩) (fun y => absurd z y)) (fun z => kt_yisP hc (fun y => absurd y z) (fun _ => ⟨rfl, R _ _ _ _⟩))
theorem i_vc_points {k : Nat} {u : SX} {v : SY} (I : i_Rel k u v) (hk : k + 5 ≤ 2561) : wpX_points (fun r => wpY_points (fun r' => r' = r ∧ i_Rel (k + 5) u v) v) u := by
  obtain ⟨c, pa, pb, dg, ad, ai, al, hc, rfl, rfl, ha, hl⟩ := I
  have hn := kt_n_lt c
  have R : ∀ pa pb dg ad, i_Rel (k + 5) (nI c, nI (kt_n c), kt_cm c, kt_cA c, kt_cB c, pa, pb, dg, ad) (nI c, nI (kt_n c), ai, al) := fun pa pb dg ad => ⟨c, pa, pb, dg, ad, ai, al, hc, rfl, rfl, ha, hl⟩
  exact ⟨rfl, R _ _ _ _⟩
theorem i_vc_next {k : Nat} {u : SX} {v : SY} (I : i_Rel k u v) (hk : k + 5 ≤ 2561) (v1 : Int32) : wpX_next (fun r => wpY_next (fun r' => r' = r ∧ i_Rel (k + 5) u v) v v1) u v1 := by
  obtain ⟨c, pa, pb, dg, ad, ai, al, hc, rfl, rfl, ha, hl⟩ := I
  have hn := kt_n_lt c
  have R : ∀ pa pb dg ad, i_Rel (k + 5) (nI c, nI (kt_n c), kt_cm c, kt_cA c, kt_cB c, pa, pb, dg, ad) (nI c, nI (kt_n c), ai, al) := fun pa pb dg ad => ⟨c, pa, pb, dg, ad, ai, al, hc, rfl, rfl, ha, hl⟩
  unfold wpX_next
  dsimp only
  refine br_c (fun h1 => br_c (fun h0 => ?_) (fun h0 => ?_)) (fun h1 => ?_)
  · obtain ⟨st, hs, rfl⟩ := nI_of (x := v1) (Int32.not_lt.mpr h0)
    have hs2 : st ≤ 16384 := (nI_leI (b := 16384) hs (by decide)).mp h1
    exact nm_r (kt_shr7 hs2) (kt_xnx hc hs2 (Exists.intro _ (kt_ynxL hs hc hl (kt_n c) 0 (by omega) ⟨rfl, R _ _ _ _⟩)))
  · refine nm_r (e' := nI (0 / 128)) (by decide) (kt_xnx (st := 0) hc (by decide) ?_)
    have hin : vp_in (nI 0) 300 := vp_in_nI (by decide) (by decide)
    have h16 := kt_ls_le hc (j := 0) (by omega)
    refine Exists.intro 1 (br_f (nI_ge (a := 0) (by omega) (by omega)) (And.intro hin ?_))
    have ec : (0 : Int32).toNatClampNeg = 0 := by decide
    rw [ec, hl 0 (by omega)]
    refine br_f (fun z => ?_) (And.intro hin ⟨?_, R _ _ _ _⟩)
    · rw [Int32.lt_iff_toInt_lt, nI_toInt (by omega)] at z
      rw [Int32.le_iff_toInt_le, show (0 : Int32).toInt = 0 by decide] at h0
      omega
    · rw [show kt_n c = (kt_n c - 1) + 1 by omega, kt_nG_T (Nat.zero_le _)]
  · have h0 : ¬ v1 < 0 := by
      rw [Int32.le_iff_toInt_le, show (16384 : Int32).toInt = 16384 by decide] at h1
      rw [Int32.lt_iff_toInt_lt, show (0 : Int32).toInt = 0 by decide]
      omega
    obtain ⟨st, hs, rfl⟩ := nI_of h0
    have hs2 : ¬ st ≤ 16384 := fun z => h1 (nI_le (b := 16384) z (by decide))
    refine Exists.intro _ (kt_ynxL hs hc hl (kt_n c) 0 (by omega) ⟨?_, R _ _ _ _⟩)
    exact kt_nG_none hc (by omega)
theorem i_vc_add {k : Nat} {u : SX} {v : SY} (I : i_Rel k u v) (hk : k + 5 ≤ 2561) (v1 : Int32) (v2 : Int32) : wpX_add (fun r => wpY_add (fun r' => r' = r ∧ i_Rel (k + 5) u v) v v1 v2) u v1 v2 := by
  obtain ⟨c, pa, pb, dg, ad, ai, al, hc, rfl, rfl, ha, hl⟩ := I
  have hn := kt_n_lt c
  have R : ∀ pa pb dg ad, i_Rel (k + 5) (nI c, nI (kt_n c), kt_cm c, kt_cA c, kt_cB c, pa, pb, dg, ad) (nI c, nI (kt_n c), ai, al) := fun pa pb dg ad => ⟨c, pa, pb, dg, ad, ai, al, hc, rfl, rfl, ha, hl⟩
  by_cases e : kt_P c v1 ∧ kt_P c v2
  · obtain ⟨⟨i, h1, rfl⟩, ⟨j, h2, rfl⟩⟩ := e
    exact kt_xaddP hc h1 h2 (kt_yaddP hc ha h1 h2 ⟨rfl, R _ _ _ _⟩)
  · exact kt_xaddN hc e (kt_yaddN hc e ⟨rfl, R _ _ _ _⟩)
theorem i_vc_negate {k : Nat} {u : SX} {v : SY} (I : i_Rel k u v) (hk : k + 5 ≤ 2561) (v1 : Int32) : wpX_negate (fun r => wpY_negate (fun r' => r' = r ∧ i_Rel (k + 5) u v) v v1) u v1 := by
  obtain ⟨c, pa, pb, dg, ad, ai, al, hc, rfl, rfl, ha, hl⟩ := I
  have hn := kt_n_lt c
  have R : ∀ pa pb dg ad, i_Rel (k + 5) (nI c, nI (kt_n c), kt_cm c, kt_cA c, kt_cB c, pa, pb, dg, ad) (nI c, nI (kt_n c), ai, al) := fun pa pb dg ad => ⟨c, pa, pb, dg, ad, ai, al, hc, rfl, rfl, ha, hl⟩
  refine kt_xneg hc (fun i hi e => ?_) (fun e => kt_yneg hc (fun i hi e2 => absurd ⟨i, hi, e2⟩ e) (fun _ => ⟨rfl, R _ _ _ _⟩))
  refine kt_yneg hc (fun j hj e2 => ?_) (fun e2 => absurd ⟨i, hi, e⟩ e2)
  have e3 : j = i := (kt_ptE hc hj hi).mp (e2.symm.trans e)
  rw [e3]
  exact ⟨rfl, R _ _ _ _⟩
theorem i_vc_multiple {k : Nat} {u : SX} {v : SY} (I : i_Rel k u v) (hk : k + 5 ≤ 2561) (v1 : Int32) (v2 : Int32) : wpX_multiple (fun r u' => wpY_multiple (fun r' => r' = r ∧ i_Rel (k + 5) u' v) v v1 v2) u v1 v2 := by
  obtain ⟨c, pa, pb, dg, ad, ai, al, hc, rfl, rfl, ha, hl⟩ := I
  have hn := kt_n_lt c
  have R : ∀ pa pb dg ad, i_Rel (k + 5) (nI c, nI (kt_n c), kt_cm c, kt_cA c, kt_cB c, pa, pb, dg, ad) (nI c, nI (kt_n c), ai, al) := fun pa pb dg ad => ⟨c, pa, pb, dg, ad, ai, al, hc, rfl, rfl, ha, hl⟩
  by_cases e : kt_P c v2 ∧ kt_F v1
  · obtain ⟨⟨i, h1, rfl⟩, h2⟩ := e
    obtain ⟨r, hr, h3⟩ := kt_res_ex (c := c) h2.1 h2.2
    exact kt_xmulP hc h1 h2 h3 (fun pa pb dg ad => kt_ymulP hc ha h1 h2 h3 ⟨rfl, R _ _ _ _⟩)
  · exact kt_xmulN hc e (kt_ymulN hc e ⟨rfl, R _ _ _ _⟩)
theorem i_vc_combine {k : Nat} {u : SX} {v : SY} (I : i_Rel k u v) (hk : k + 5 ≤ 2561) (v1 : Int32) (v2 : Int32) (v3 : Int32) (v4 : Int32) : wpX_combine (fun r u' => wpY_combine (fun r' => r' = r ∧ i_Rel (k + 5) u' v) v v1 v2 v3 v4) u v1 v2 v3 v4 := by
  obtain ⟨c, pa, pb, dg, ad, ai, al, hc, rfl, rfl, ha, hl⟩ := I
  have hn := kt_n_lt c
  have R : ∀ pa pb dg ad, i_Rel (k + 5) (nI c, nI (kt_n c), kt_cm c, kt_cA c, kt_cB c, pa, pb, dg, ad) (nI c, nI (kt_n c), ai, al) := fun pa pb dg ad => ⟨c, pa, pb, dg, ad, ai, al, hc, rfl, rfl, ha, hl⟩
  by_cases e : kt_P c v2 ∧ kt_P c v4 ∧ kt_F v1 ∧ kt_F v3
  · obtain ⟨⟨i, h1, rfl⟩, ⟨j, h2, rfl⟩, h3, h4⟩ := e
    obtain ⟨r, hr, h5⟩ := kt_res_ex (c := c) h3.1 h3.2
    obtain ⟨s, hs, h6⟩ := kt_res_ex (c := c) h4.1 h4.2
    exact kt_xcomP hc h1 h2 h3 h5 h4 h6 (fun pa pb dg ad => kt_ycomP hc ha h1 h2 h3 h5 h4 h6 ⟨rfl, R _ _ _ _⟩)
  · exact kt_xcomN hc e (kt_ycomN hc e ⟨rfl, R _ _ _ _⟩)
theorem i_vc_order {k : Nat} {u : SX} {v : SY} (I : i_Rel k u v) (hk : k + 5 ≤ 2561) (v1 : Int32) : wpX_order (fun r u' => wpY_order (fun r' => r' = r ∧ i_Rel (k + 5) u' v) v v1) u v1 := by
  obtain ⟨c, pa, pb, dg, ad, ai, al, hc, rfl, rfl, ha, hl⟩ := I
  have hn := kt_n_lt c
  have R : ∀ pa pb dg ad, i_Rel (k + 5) (nI c, nI (kt_n c), kt_cm c, kt_cA c, kt_cB c, pa, pb, dg, ad) (nI c, nI (kt_n c), ai, al) := fun pa pb dg ad => ⟨c, pa, pb, dg, ad, ai, al, hc, rfl, rfl, ha, hl⟩
  by_cases e : kt_P c v1
  · obtain ⟨i, h1, rfl⟩ := e
    exact kt_xordP hc h1 (fun pa pb dg ad => kt_yordP hc ha h1 ⟨rfl, R _ _ _ _⟩)
  · exact kt_xordN hc e (kt_yordN hc e ⟨rfl, R _ _ _ _⟩)
theorem i_vc_half {k : Nat} {u : SX} {v : SY} (I : i_Rel k u v) (hk : k + 5 ≤ 2561) (v1 : Int32) : wpX_half (fun r => wpY_half (fun r' => r' = r ∧ i_Rel (k + 5) u v) v v1) u v1 := by
  obtain ⟨c, pa, pb, dg, ad, ai, al, hc, rfl, rfl, ha, hl⟩ := I
  have hn := kt_n_lt c
  have R : ∀ pa pb dg ad, i_Rel (k + 5) (nI c, nI (kt_n c), kt_cm c, kt_cA c, kt_cB c, pa, pb, dg, ad) (nI c, nI (kt_n c), ai, al) := fun pa pb dg ad => ⟨c, pa, pb, dg, ad, ai, al, hc, rfl, rfl, ha, hl⟩
  by_cases e : kt_P c v1
  · obtain ⟨i, h1, rfl⟩ := e
    exact kt_xhalf hc (kt_pt_le hc h1) ⟨i, h1, rfl⟩ (kt_yhalfP hc ha hl h1 ⟨(kt_hT hc h1).symm, R _ _ _ _⟩)
  · exact kt_xhalfN hc e (kt_yhalfN hc e ⟨rfl, R _ _ _ _⟩)
theorem i_vc_halves {k : Nat} {u : SX} {v : SY} (I : i_Rel k u v) (hk : k + 5 ≤ 2561) (v1 : Int32) : wpX_halves (fun r => wpY_halves (fun r' => r' = r ∧ i_Rel (k + 5) u v) v v1) u v1 := by
  obtain ⟨c, pa, pb, dg, ad, ai, al, hc, rfl, rfl, ha, hl⟩ := I
  have hn := kt_n_lt c
  have R : ∀ pa pb dg ad, i_Rel (k + 5) (nI c, nI (kt_n c), kt_cm c, kt_cA c, kt_cB c, pa, pb, dg, ad) (nI c, nI (kt_n c), ai, al) := fun pa pb dg ad => ⟨c, pa, pb, dg, ad, ai, al, hc, rfl, rfl, ha, hl⟩
  by_cases e : kt_P c v1
  · obtain ⟨i, h1, rfl⟩ := e
    exact kt_xhalves hc (kt_pt_le hc h1) ⟨i, h1, rfl⟩ (kt_yhalvesP hc ha hl h1 ⟨(kt_cTT hc h1).symm, R _ _ _ _⟩)
  · exact kt_xhalvesN hc e (kt_yhalvesN hc e ⟨rfl, R _ _ _ _⟩)
theorem i_vc_square {k : Nat} {u : SX} {v : SY} (I : i_Rel k u v) (hk : k + 5 ≤ 2561) (v1 : Int32) : wpX_square (fun r => wpY_square (fun r' => r' = r ∧ i_Rel (k + 5) u v) v v1) u v1 := by
  obtain ⟨c, pa, pb, dg, ad, ai, al, hc, rfl, rfl, ha, hl⟩ := I
  have hn := kt_n_lt c
  have R : ∀ pa pb dg ad, i_Rel (k + 5) (nI c, nI (kt_n c), kt_cm c, kt_cA c, kt_cB c, pa, pb, dg, ad) (nI c, nI (kt_n c), ai, al) := fun pa pb dg ad => ⟨c, pa, pb, dg, ad, ai, al, hc, rfl, rfl, ha, hl⟩
  refine kt_xsquare hc (fun p hp hP e => ?_) (fun e => kt_ysquareN hc e ⟨rfl, R _ _ _ _⟩)
  rw [e]
  exact kt_ysquareP hc hp hP ⟨rfl, R _ _ _ _⟩
theorem i_vc_log {k : Nat} {u : SX} {v : SY} (I : i_Rel k u v) (hk : k + 5 ≤ 2561) (v1 : Int32) (v2 : Int32) : wpX_log (fun r u' => wpY_log (fun r' => r' = r ∧ i_Rel (k + 5) u' v) v v1 v2) u v1 v2 := by
  obtain ⟨c, pa, pb, dg, ad, ai, al, hc, rfl, rfl, ha, hl⟩ := I
  have hn := kt_n_lt c
  have R : ∀ pa pb dg ad, i_Rel (k + 5) (nI c, nI (kt_n c), kt_cm c, kt_cA c, kt_cB c, pa, pb, dg, ad) (nI c, nI (kt_n c), ai, al) := fun pa pb dg ad => ⟨c, pa, pb, dg, ad, ai, al, hc, rfl, rfl, ha, hl⟩
  by_cases e : kt_P c v1 ∧ kt_P c v2
  · obtain ⟨⟨i, h1, rfl⟩, ⟨j, h2, rfl⟩⟩ := e
    exact kt_xlogP hc h1 h2 (fun pa pb dg ad => kt_ylogP hc ha h1 h2 ⟨rfl, R _ _ _ _⟩)
  · exact kt_xlogN hc e (kt_ylogN hc e ⟨rfl, R _ _ _ _⟩)
end
