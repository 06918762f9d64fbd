section
/-! rows of the kit, pasted (PURE-ROWS, BITS) -/
theorem pk_us {f : Nat → Int32} {k : Nat} {x : Int32} : upd f k x k = x := if_pos rfl
theorem pk_un {f : Nat → Int32} {k j : Nat} {x : Int32} (h : j ≠ k) : upd f k x j = f j := if_neg h
theorem pk_sub {a b : Nat} (h : b ≤ a) : nI a - nI b = nI (a - b) := by
  obtain ⟨c, rfl⟩ : ∃ c, a = c + b := ⟨a - b, by omega⟩
  rw [← nI_add, Int32.add_sub_cancel, Nat.add_sub_cancel]
theorem pk_m1 (n : Nat) : nI (n + 1) + (-1) = nI n := by
  rw [← nI_1, Int32.add_assoc, show (1 : Int32) + (-1) = 0 from rfl, Int32.add_zero]
theorem pk_mul (a b : Nat) : nI a * nI b = nI (a * b) := (Int32.ofNat_mul a b).symm
theorem pk_div {a d : Nat} (ha : a < 2 ^ 31) (h0 : 0 < d) (hd : d < 2 ^ 31) : nI a / nI d = nI (a / d) := by
  apply Int32.toInt_inj.mp
  rw [lg_idiv_nonneg (by rw [nI_toInt ha]; omega) (by rw [nI_toInt hd]; omega), nI_toInt ha, nI_toInt hd, nI_toInt (Nat.lt_of_le_of_lt (Nat.div_le_self a d) ha)]
  first | rfl | exact (Int.natCast_ediv _ _).symm
theorem pk_rem {a d : Nat} (ha : a < 2 ^ 31) (h0 : 0 < d) (hd : d < 2 ^ 31) : nI a - nI a / nI d * nI d = nI (a % d) := by
  rw [pk_div ha h0 hd, pk_mul, pk_sub (Nat.div_mul_le_self a d)]
  exact congrArg nI (by have := Nat.div_add_mod' a d; omega)
theorem pk_ix (x : Int32) {n : Nat} (hn : n < 2 ^ 31) : x < 0 ∨ nI n ≤ x ∨ ∃ j : Nat, j < n ∧ x = nI j := by
  by_cases h : x < 0
  · exact Or.inl h
  · obtain ⟨j, hj, rfl⟩ := nI_of h
    by_cases h2 : j < n
    · exact Or.inr (Or.inr ⟨j, h2, rfl⟩)
    · exact Or.inr (Or.inl (nI_le (by omega) hj))
theorem pk_le {x y : Int32} {A B : Prop} (a b : Nat) (f : a ≤ b → A) (g : b < a → B) (hx : x = nI a := by rfl) (hy : y = nI b := by rfl) (ha : a < 2 ^ 31 := by omega) (hb : b < 2 ^ 31 := by omega) : (x ≤ y → A) ∧ (¬ x ≤ y → B) := by
  subst hx hy
  rw [nI_leI ha hb]
  exact ⟨f, fun z => g (by omega)⟩
theorem pk_lt {x y : Int32} {A B : Prop} (a b : Nat) (f : a < b → A) (g : b ≤ a → B) (hx : x = nI a := by rfl) (hy : y = nI b := by rfl) (ha : a < 2 ^ 31 := by omega) (hb : b < 2 ^ 31 := by omega) : (x < y → A) ∧ (¬ x < y → B) := by
  subst hx hy
  rw [nI_ltI ha hb]
  exact ⟨f, fun z => g (by omega)⟩
theorem pk_eq {x y : Int32} {A B : Prop} (a b : Nat) (f : a = b → A) (g : a ≠ b → B) (hx : x = nI a := by rfl) (hy : y = nI b := by rfl) (ha : a < 2 ^ 31 := by omega) (hb : b < 2 ^ 31 := by omega) : (x = y → A) ∧ (¬ x = y → B) := by
  subst hx hy
  rw [nI_eq ha hb]
  exact ⟨f, g⟩
theorem pk_in {x : Int32} (n N : Nat) (h : n < N) (hx : x = nI n := by rfl) (hN : N < 2 ^ 31 := by omega) : vp_in x N := by
  subst hx
  exact vp_in_nI h hN
theorem pk_cl {x : Int32} (n : Nat) (hx : x = nI n := by rfl) (h : n < 2 ^ 31 := by omega) : x.toNatClampNeg = n := by
  subst hx
  exact nI_clamp h
theorem pk_tn {n : Nat} (h : n < 2 ^ 32) : (nI n).toBitVec.toNat = n := Nat.mod_eq_of_lt h
theorem pk_and (x : Int32) {m : Int32} (k : Nat) (hm : m.toBitVec.toNat = 2 ^ k - 1) : x &&& m = nI (x.toBitVec.toNat % 2 ^ k) := by
  apply Int32.toBitVec_inj.mp
  apply BitVec.eq_of_toNat_eq
  rw [Int32.toBitVec_and, BitVec.toNat_and, hm, Nat.and_two_pow_sub_one_eq_mod]
  show _ = (BitVec.ofNat 32 _).toNat
  rw [BitVec.toNat_ofNat]
  exact (Nat.mod_eq_of_lt (Nat.lt_of_le_of_lt (Nat.mod_le _ _) x.toBitVec.isLt)).symm
theorem pk_andN {n : Nat} (h : n < 2 ^ 32) {m : Int32} (k : Nat) (hm : m.toBitVec.toNat = 2 ^ k - 1) : nI n &&& m = nI (n % 2 ^ k) := by
  rw [pk_and _ k hm, pk_tn h]
theorem pk_shl (a s : Int32) (k : Nat) (hs : (s.toBitVec.smod 32).toNat = k) : (a <<< s).toBitVec.toNat = a.toBitVec.toNat * 2 ^ k % 2 ^ 32 := by
  show (a.toBitVec <<< (s.toBitVec.smod 32).toNat).toNat = _
  rw [hs, BitVec.toNat_shiftLeft, Nat.shiftLeft_eq]
theorem pk_shlN {n : Nat} (s : Int32) (k : Nat) (hs : (s.toBitVec.smod 32).toNat = k) (h : n * 2 ^ k < 2 ^ 32) : nI n <<< s = nI (n * 2 ^ k) := by
  apply Int32.toBitVec_inj.mp
  apply BitVec.eq_of_toNat_eq
  have hn : n < 2 ^ 32 := Nat.lt_of_le_of_lt (Nat.le_mul_of_pos_right n (Nat.two_pow_pos k)) h
  rw [pk_shl _ _ k hs, pk_tn hn, pk_tn h, Nat.mod_eq_of_lt h]
theorem pk_shr (a s : Int32) (k : Nat) (hs : (s.toBitVec.smod 32).toNat = k) : (a >>> s).toInt = a.toInt >>> k := by
  show (a.toBitVec.sshiftRight (s.toBitVec.smod 32).toNat).toInt = _
  rw [hs, BitVec.toInt_sshiftRight]
  rfl
theorem pk_shrN {n : Nat} (h : n < 2 ^ 31) (s : Int32) (k : Nat) (hs : (s.toBitVec.smod 32).toNat = k) : nI n >>> s = nI (n / 2 ^ k) := by
  apply Int32.toInt_inj.mp
  have h2 : n / 2 ^ k ≤ n := Nat.div_le_self _ _
  rw [pk_shr _ _ k hs, nI_toInt h, nI_toInt (by omega), Int.shiftRight_eq_div_pow]
  rfl
theorem pk_loop {σ : Type} (W : Nat → Nat → σ → Prop) (I : Nat → σ → Prop) (e i0 : Nat) (s : σ) (hi : i0 ≤ e) (h0 : I i0 s) (hx : ∀ n s, I e s → W (n + 1) e s)
    (hs : ∀ n i s, i < e → I i s → (∀ s', I (i + 1) s' → W n (i + 1) s') → W (n + 1) i s) : ∃ n, W n i0 s :=
  ⟨e + 1, loop_i W I e hx hs (e + 1) i0 s hi (by omega) h0⟩
theorem nx_and (a b : Nat) : nI a &&& nI b = nI (a &&& b) := by
  apply Int32.toBitVec_inj.1
  show BitVec.ofNat 32 a &&& BitVec.ofNat 32 b = BitVec.ofNat 32 (a &&& b)
  apply BitVec.eq_of_getLsbD_eq
  intro i hi
  simp [hi]
end
section
/-! the 124 trees: t taxa (3 .. 6), code c < U t: tables of digits -/
def pp_bP (t : Nat) : Nat := if t = 3 then 660 else if t = 4 then 6000776000600076700007007660 else if t = 5 then 76008876007600886700707088660068008776006800876700087087660076008786006600878700607087860066008778007600876800607087680006808776000680876700708087660 else 876099876087609986708707998660868099776086809976708087997660876099786086609978708607997860866099778087609976808607997680806899776080689976708708997660796098876079609886707907988660698098776069809876700987987660796098786069609878706907987860696098778079609876806907987680096898776009689876707908987660876098976087609896708707989660768098976076809896707087989660776098986076609898707607989860766098978077609896807607989680706898976070689896707708989660679098876067909886700797988660869098776086909876708097987660679098786066909878700697987860669098778067909876800697987680609898776060989876700798987660776098896067609889706707988960768098796066809879706087987960876098796086609879708607987960766098798067609879806607987980706898796060689879706708987960676098879077609886906707988690668098779076809876906087987690676098789076609878906607987890866098779087609876908607987690606898779070689876906708987690076998876007699886707709988660068998776006899876707089987660076998786006699878707609987860066998778007699876807609987680806998776080699876708709987660
def pp_P (t c v : Nat) : Nat := pp_bP t / 10 ^ (c * 10 + v) % 10
def pp_bL (t : Nat) : Nat := if t = 3 then 1000000 else if t = 4 then 2100000000170000000061000000 else if t = 5 then 32100000003170000000361000000072100000007180000000761000000028100000002170000000261000000012800000001870000000168000000062100000006170000000681000000 else 432100000043170000004361000000472100000047180000004761000000428100000042170000004261000000412800000041870000004168000000462100000046170000004681000000832100000083170000008361000000872100000087190000008761000000829100000082170000008261000000812900000081970000008169000000862100000086170000008691000000392100000039170000003961000000372100000037180000003761000000328100000032170000003261000000312800000031870000003168000000362100000036170000003681000000732100000073190000007361000000792100000079180000007961000000728100000072190000007261000000712800000071890000007168000000762100000076190000007681000000239100000023170000002361000000279100000027180000002761000000298100000029170000002961000000219800000021870000002168000000269100000026170000002681000000132900000013970000001369000000172900000017980000001769000000128900000012970000001269000000192800000019870000001968000000162900000016970000001689000000632100000063170000006391000000672100000067180000006791000000628100000062170000006291000000612800000061870000006198000000692100000069170000006981000000
def pp_L (t c v : Nat) : Nat := pp_bL t / 10 ^ (c * 10 + v) % 10
def pp_bR (t : Nat) : Nat := if t = 3 then 2000000 else if t = 4 then 3700000000320000000032000000 else if t = 5 then 48700000004820000000482000000043800000004320000000432000000043700000004380000000438000000043700000004320000000432000000043700000004320000000432000000 else 598700000059820000005982000000593800000059320000005932000000593700000059380000005938000000593700000059320000005932000000593700000059320000005932000000549700000054920000005492000000543900000054320000005432000000543700000054390000005439000000543700000054320000005432000000543700000054320000005432000000548700000054820000005482000000549800000054920000005492000000549700000054980000005498000000549700000054920000005492000000549700000054920000005492000000548900000054820000005482000000543800000054320000005432000000543900000054380000005438000000543900000054320000005432000000543900000054320000005432000000548700000054890000005489000000543800000054390000005439000000543700000054380000005438000000543700000054390000005439000000543700000054390000005439000000548700000054820000005482000000543800000054320000005432000000543700000054380000005438000000543700000054320000005432000000543700000054320000005432000000548700000054820000005482000000543800000054320000005432000000543700000054380000005438000000543700000054320000005432000000543700000054320000005432000000
def pp_R (t c v : Nat) : Nat := pp_bR t / 10 ^ (c * 10 + v) % 10
def pp_bLo (t : Nat) : Nat := if t = 3 then 216 else if t = 4 then 3721600000372160000037216 else if t = 5 then 483721600048372160004837216000483721600048372160004837216000483721600048372160004837216000483721600048372160004837216000483721600048372160004837216 else 59483721605948372160594837216059483721605948372160594837216059483721605948372160594837216059483721605948372160594837216059483721605948372160594837216059483721605948372160594837216059483721605948372160594837216059483721605948372160594837216059483721605948372160594837216059483721605948372160594837216059483721605948372160594837216059483721605948372160594837216059483721605948372160594837216059483721605948372160594837216059483721605948372160594837216059483721605948372160594837216059483721605948372160594837216059483721605948372160594837216059483721605948372160594837216059483721605948372160594837216059483721605948372160594837216059483721605948372160594837216059483721605948372160594837216059483721605948372160594837216059483721605948372160594837216059483721605948372160594837216059483721605948372160594837216059483721605948372160594837216059483721605948372160594837216059483721605948372160594837216059483721605948372160594837216059483721605948372160594837216059483721605948372160594837216059483721605948372160594837216059483721605948372160594837216
def pp_Lo (t c v : Nat) : Nat := pp_bLo t / 10 ^ (c * 10 + v) % 10
def pp_bD (t : Nat) : Nat := if t = 3 then 1000220 else if t = 4 then 2100332000210032300012002330 else if t = 5 then 32104432003210442300212033330023103442002310342400123023440032104342002210333300312042430022103333003210432400312042340013202443001320243400213032440 else 432155432043215542303212443330323144442032314442402123333440432155342032214433304312552430322144333043215532404312552340213233443021323343403213442440342145532034214552302312344330234134552023413452501234234550342145352023213434303412452530232134334034214532503412452350124323554012432354502314342550432154532043215452303212434330423153542042315352403123424440332144442032214343302312343430322143433033214442402312343340413252543041325253402213333440243135542024313552401323244440324143552032414352502134324550243135452022313343401423253540223133443024313542501423253450314242553031424253501324243550332144442023213443303212433430423153452022313343404123523540432154352032214334304312542530322143343023213433403312442440413252453031324244404213532540232134433033214442403212433340223133443042315342504123523450232134343032214333403312442440322143334043215432504312542350313242444041325243504213532450143225543014322553402213333440134224553013422453503124423550143225453013322444402413352540133224444014322543502413352450214332554021433254503214432550
def pp_D (t c v : Nat) : Nat := pp_bD t / 10 ^ (c * 10 + v) % 10
def pp_bE (t : Nat) : Nat := if t = 3 then 210 else if t = 4 then 3000421000300042100030004210 else if t = 5 then 53006421005300642100530064210053006421005300642100530064210053006421005300642100530064210053006421005300642100530064210053006421005300642100530064210 else 753086421075308642107530864210753086421075308642107530864210753086421075308642107530864210753086421075308642107530864210753086421075308642107530864210753086421075308642107530864210753086421075308642107530864210753086421075308642107530864210753086421075308642107530864210753086421075308642107530864210753086421075308642107530864210753086421075308642107530864210753086421075308642107530864210753086421075308642107530864210753086421075308642107530864210753086421075308642107530864210753086421075308642107530864210753086421075308642107530864210753086421075308642107530864210753086421075308642107530864210753086421075308642107530864210753086421075308642107530864210753086421075308642107530864210753086421075308642107530864210753086421075308642107530864210753086421075308642107530864210753086421075308642107530864210753086421075308642107530864210753086421075308642107530864210753086421075308642107530864210753086421075308642107530864210753086421075308642107530864210753086421075308642107530864210753086421075308642107530864210753086421075308642107530864210
def pp_E (t c v : Nat) : Nat := pp_bE t / 10 ^ (c * 10 + v) % 10
def pp_bRc (t : Nat) : Nat := if t = 3 then 6 else if t = 4 then 667 else if t = 5 then 667668667667887 else 667668667667887667669667667997667668667667887669668669669889667668667667887667668667667887997998997997887
def pp_Rc (t c : Nat) : Nat := pp_bRc t / 10 ^ c % 10
def pp_U (t : Nat) : Nat := if t = 3 then 1 else if t = 4 then 3 else if t = 5 then 15 else 105
/-- a node of the tree of t taxa, other than taxon 0 -/
abbrev pp_nd (t v : Nat) : Prop := (1 ≤ v ∧ v < t) ∨ (6 ≤ v ∧ v < t + 4)
abbrev pp_ok (t c : Nat) : Prop := 3 ≤ t ∧ t ≤ 6 ∧ c < pp_U t
def pp_al (N : Nat) (p : Nat → Bool) : Bool := (List.range N).all p
theorem pp_alE {N : Nat} {p : Nat → Bool} (h : pp_al N p = true) {i : Nat} (hi : i < N) : p i = true := List.all_eq_true.mp h i (List.mem_range.mpr hi)
theorem pp_al2 {p : Nat → Nat → Bool} (h : pp_al 7 (fun t => decide (t < 3) || pp_al (pp_U t) (fun c => p t c)) = true) {t c : Nat} (k : pp_ok t c) : p t c = true := by
  have h1 := pp_alE h (by omega : t < 7)
  rw [decide_eq_false (by omega : ¬ t < 3), Bool.false_or] at h1
  exact pp_alE h1 k.2.2
theorem pp_al3 {p : Nat → Nat → Nat → Bool} (h : pp_al 7 (fun t => decide (t < 3) || pp_al (pp_U t) (fun c => pp_al 10 (fun v => p t c v))) = true) {t c v : Nat} (k : pp_ok t c) (hv : v < 10) : p t c v = true :=
  pp_alE (pp_al2 (p := fun t c => pp_al 10 (fun v => p t c v)) h k) hv
theorem pp_ai2 {p : Nat → Nat → Nat → Bool} (h : pp_al 6 (fun t => decide (t < 3) || pp_al (pp_U t) (fun c => pp_al (2 * t - 3) (fun q => p t c q))) = true) {t c q : Nat} (k : pp_ok t c) (h5 : t ≤ 5) (hq : q < 2 * t - 3) : p t c q = true := by
  have h1 := pp_alE h (by omega : t < 6)
  rw [decide_eq_false (by omega : ¬ t < 3), Bool.false_or] at h1
  exact pp_alE (pp_alE h1 k.2.2) hq
theorem pp_ai3 {p : Nat → Nat → Nat → Nat → Bool} (h : pp_al 6 (fun t => decide (t < 3) || pp_al (pp_U t) (fun c => pp_al (2 * t - 3) (fun q => pp_al 10 (fun v => p t c q v)))) = true) {t c q v : Nat} (k : pp_ok t c) (h5 : t ≤ 5) (hq : q < 2 * t - 3) (hv : v < 10) : p t c q v = true :=
  pp_alE (pp_ai2 (p := fun t c q => pp_al 10 (fun v => p t c q v)) h k h5 hq) hv
/-- an inner node -/
theorem pp_in {t c v : Nat} (k : pp_ok t c) (h6 : 6 ≤ v) (hv : v < t + 4) :
    pp_nd t (pp_L t c v) ∧ pp_nd t (pp_R t c v) ∧ pp_L t c v ≠ pp_R t c v ∧ pp_L t c v ≠ v ∧ pp_R t c v ≠ v :=
  of_decide_eq_true (pp_al3 (p := fun t c v => decide (6 ≤ v → v < t + 4 → pp_nd t (pp_L t c v) ∧ pp_nd t (pp_R t c v) ∧ pp_L t c v ≠ pp_R t c v ∧ pp_L t c v ≠ v ∧ pp_R t c v ≠ v)) (by decide +kernel) k (by omega)) h6 hv
theorem pp_in2 {t c v : Nat} (k : pp_ok t c) (h6 : 6 ≤ v) (hv : v < t + 4) :
    pp_P t c (pp_L t c v) = v ∧ pp_P t c (pp_R t c v) = v ∧ pp_D t c (pp_L t c v) = pp_D t c v + 1 ∧ pp_D t c (pp_R t c v) = pp_D t c v + 1 ∧ pp_D t c v ≤ 4 :=
  of_decide_eq_true (pp_al3 (p := fun t c v => decide (6 ≤ v → v < t + 4 → pp_P t c (pp_L t c v) = v ∧ pp_P t c (pp_R t c v) = v ∧ pp_D t c (pp_L t c v) = pp_D t c v + 1 ∧ pp_D t c (pp_R t c v) = pp_D t c v + 1 ∧ pp_D t c v ≤ 4)) (by decide +kernel) k (by omega)) h6 hv
theorem pp_no {t c v : Nat} (k : pp_ok t c) (h : pp_nd t v) :
    (pp_P t c v = 0 ∨ (6 ≤ pp_P t c v ∧ pp_P t c v < t + 4)) ∧ (pp_P t c v = 0 → v = pp_Rc t c) ∧ (pp_P t c v ≠ 0 → pp_L t c (pp_P t c v) = v ∨ pp_R t c (pp_P t c v) = v) :=
  of_decide_eq_true (pp_al3 (p := fun t c v => decide (pp_nd t v → (pp_P t c v = 0 ∨ (6 ≤ pp_P t c v ∧ pp_P t c v < t + 4)) ∧ (pp_P t c v = 0 → v = pp_Rc t c) ∧ (pp_P t c v ≠ 0 → pp_L t c (pp_P t c v) = v ∨ pp_R t c (pp_P t c v) = v))) (by decide +kernel) k (by omega)) h
theorem pp_no2 {t c v : Nat} (k : pp_ok t c) (h : pp_nd t v) :
    pp_D t c v = pp_D t c (pp_P t c v) + 1 ∧ pp_D t c v ≤ 5 ∧ pp_E t c v < 2 * t - 3 ∧ pp_Lo t c (pp_E t c v) = v ∧ pp_P t c v ≠ v :=
  of_decide_eq_true (pp_al3 (p := fun t c v => decide (pp_nd t v → pp_D t c v = pp_D t c (pp_P t c v) + 1 ∧ pp_D t c v ≤ 5 ∧ pp_E t c v < 2 * t - 3 ∧ pp_Lo t c (pp_E t c v) = v ∧ pp_P t c v ≠ v)) (by decide +kernel) k (by omega)) h
theorem pp_rt {t c : Nat} (k : pp_ok t c) :
    (6 ≤ pp_Rc t c ∧ pp_Rc t c < t + 4) ∧ pp_P t c (pp_Rc t c) = 0 ∧ pp_D t c (pp_Rc t c) = 1 ∧ pp_D t c 0 = 0 :=
  of_decide_eq_true (pp_al2 (p := fun t c => decide ((6 ≤ pp_Rc t c ∧ pp_Rc t c < t + 4) ∧ pp_P t c (pp_Rc t c) = 0 ∧ pp_D t c (pp_Rc t c) = 1 ∧ pp_D t c 0 = 0)) (by decide +kernel) k)
theorem pp_ed {t c e : Nat} (k : pp_ok t c) (h : e < 2 * t - 3) : pp_nd t (pp_Lo t c e) ∧ pp_E t c (pp_Lo t c e) = e :=
  of_decide_eq_true (pp_al3 (p := fun t c e => decide (e < 2 * t - 3 → pp_nd t (pp_Lo t c e) ∧ pp_E t c (pp_Lo t c e) = e)) (by decide +kernel) k (by omega)) h
/-- induction from the leaves -/
theorem pp_ind {t c : Nat} (k : pp_ok t c) (P : Nat → Prop) (hl : ∀ v, 1 ≤ v → v < t → P v)
    (hi : ∀ v, 6 ≤ v → v < t + 4 → P (pp_L t c v) → P (pp_R t c v) → P v) : ∀ v, pp_nd t v → P v := by
  have aux : ∀ d v, pp_nd t v → 5 ≤ pp_D t c v + d → P v := by
    intro d
    induction d with
    | zero =>
      intro v hv hd
      rcases hv with h | h
      · exact hl v h.1 h.2
      · have f := (pp_in2 k h.1 h.2).2.2.2.2
        omega
    | succ d ih =>
      intro v hv hd
      rcases hv with h | h
      · exact hl v h.1 h.2
      · have f := pp_in k h.1 h.2
        have g := pp_in2 k h.1 h.2
        exact hi v h.1 h.2 (ih _ f.1 (by omega)) (ih _ f.2.1 (by omega))
  intro v hv
  exact aux 5 v hv (by omega)
/-- taxon t added on edge q -/
theorem pp_insA {t c q : Nat} (k : pp_ok t c) (h5 : t ≤ 5) (hq : q < 2 * t - 3) :
    c + pp_U t * q < pp_U (t + 1) ∧ pp_P (t + 1) (c + pp_U t * q) (pp_Lo t c q) = t + 4 ∧ pp_P (t + 1) (c + pp_U t * q) (t + 4) = pp_P t c (pp_Lo t c q) ∧ pp_P (t + 1) (c + pp_U t * q) t = t + 4 :=
  of_decide_eq_true (pp_ai2 (p := fun t c q => decide (c + pp_U t * q < pp_U (t + 1) ∧ pp_P (t + 1) (c + pp_U t * q) (pp_Lo t c q) = t + 4 ∧ pp_P (t + 1) (c + pp_U t * q) (t + 4) = pp_P t c (pp_Lo t c q) ∧ pp_P (t + 1) (c + pp_U t * q) t = t + 4)) (by decide +kernel) k h5 hq)
theorem pp_insB {t c q : Nat} (k : pp_ok t c) (h5 : t ≤ 5) (hq : q < 2 * t - 3) :
    pp_L (t + 1) (c + pp_U t * q) (t + 4) = pp_Lo t c q ∧ pp_R (t + 1) (c + pp_U t * q) (t + 4) = t ∧
    pp_Rc (t + 1) (c + pp_U t * q) = (if pp_P t c (pp_Lo t c q) = 0 then t + 4 else pp_Rc t c) ∧
    pp_Lo (t + 1) (c + pp_U t * q) (2 * t - 3) = t + 4 ∧ pp_Lo (t + 1) (c + pp_U t * q) (2 * t - 2) = t :=
  of_decide_eq_true (pp_ai2 (p := fun t c q => decide (pp_L (t + 1) (c + pp_U t * q) (t + 4) = pp_Lo t c q ∧ pp_R (t + 1) (c + pp_U t * q) (t + 4) = t ∧ pp_Rc (t + 1) (c + pp_U t * q) = (if pp_P t c (pp_Lo t c q) = 0 then t + 4 else pp_Rc t c) ∧ pp_Lo (t + 1) (c + pp_U t * q) (2 * t - 3) = t + 4 ∧ pp_Lo (t + 1) (c + pp_U t * q) (2 * t - 2) = t)) (by decide +kernel) k h5 hq)
theorem pp_ins {t c q : Nat} (k : pp_ok t c) (h5 : t ≤ 5) (hq : q < 2 * t - 3) :
    c + pp_U t * q < pp_U (t + 1) ∧ pp_P (t + 1) (c + pp_U t * q) (pp_Lo t c q) = t + 4 ∧ pp_P (t + 1) (c + pp_U t * q) (t + 4) = pp_P t c (pp_Lo t c q) ∧ pp_P (t + 1) (c + pp_U t * q) t = t + 4 ∧
    pp_L (t + 1) (c + pp_U t * q) (t + 4) = pp_Lo t c q ∧ pp_R (t + 1) (c + pp_U t * q) (t + 4) = t ∧
    pp_Rc (t + 1) (c + pp_U t * q) = (if pp_P t c (pp_Lo t c q) = 0 then t + 4 else pp_Rc t c) ∧
    pp_Lo (t + 1) (c + pp_U t * q) (2 * t - 3) = t + 4 ∧ pp_Lo (t + 1) (c + pp_U t * q) (2 * t - 2) = t :=
  have a := pp_insA k h5 hq
  ⟨a.1, a.2.1, a.2.2.1, a.2.2.2, pp_insB k h5 hq⟩
theorem pp_insP {t c q v : Nat} (k : pp_ok t c) (h5 : t ≤ 5) (hq : q < 2 * t - 3) (hv : pp_nd t v) (hn : v ≠ pp_Lo t c q) :
    pp_P (t + 1) (c + pp_U t * q) v = pp_P t c v :=
  of_decide_eq_true (pp_ai3 (p := fun t c q v => decide (pp_nd t v → v ≠ pp_Lo t c q → pp_P (t + 1) (c + pp_U t * q) v = pp_P t c v)) (by decide +kernel) k h5 hq (by omega)) hv hn
theorem pp_insC {t c q v : Nat} (k : pp_ok t c) (h5 : t ≤ 5) (hq : q < 2 * t - 3) (h6 : 6 ≤ v) (hv : v < t + 4) :
    pp_L (t + 1) (c + pp_U t * q) v = (if pp_L t c v = pp_Lo t c q then t + 4 else pp_L t c v) ∧
    pp_R (t + 1) (c + pp_U t * q) v = (if pp_R t c v = pp_Lo t c q then t + 4 else pp_R t c v) :=
  of_decide_eq_true (pp_ai3 (p := fun t c q v => decide (6 ≤ v → v < t + 4 → pp_L (t + 1) (c + pp_U t * q) v = (if pp_L t c v = pp_Lo t c q then t + 4 else pp_L t c v) ∧ pp_R (t + 1) (c + pp_U t * q) v = (if pp_R t c v = pp_Lo t c q then t + 4 else pp_R t c v))) (by decide +kernel) k h5 hq (by omega)) h6 hv
theorem pp_insE {t c q e : Nat} (k : pp_ok t c) (h5 : t ≤ 5) (hq : q < 2 * t - 3) (he : e < 2 * t - 3) :
    pp_Lo (t + 1) (c + pp_U t * q) e = pp_Lo t c e :=
  of_decide_eq_true (pp_ai3 (p := fun t c q e => decide (e < 2 * t - 3 → pp_Lo (t + 1) (c + pp_U t * q) e = pp_Lo t c e)) (by decide +kernel) k h5 hq (by omega)) he
theorem pp_insk {t c q : Nat} (k : pp_ok t c) (h5 : t ≤ 5) (hq : q < 2 * t - 3) : pp_ok (t + 1) (c + pp_U t * q) := ⟨by omega, by omega, (pp_ins k h5 hq).1⟩
theorem pp_ok3 : pp_ok 3 0 := by decide
/-- the tree of three taxa -/
theorem pp_t3 : pp_Rc 3 0 = 6 ∧ pp_P 3 0 6 = 0 ∧ pp_P 3 0 1 = 6 ∧ pp_P 3 0 2 = 6 ∧ pp_L 3 0 6 = 1 ∧ pp_R 3 0 6 = 2 ∧ pp_Lo 3 0 0 = 6 ∧ pp_Lo 3 0 1 = 1 ∧ pp_Lo 3 0 2 = 2 := by decide +kernel
theorem pp_l10 (t c v : Nat) : pp_L t c v < 10 := Nat.mod_lt _ (by decide)
theorem pp_r10 (t c v : Nat) : pp_R t c v < 10 := Nat.mod_lt _ (by decide)
theorem pp_p10 (t c v : Nat) : pp_P t c v < 10 := Nat.mod_lt _ (by decide)
/-- digits of a code -/
def pp_dg (c u : Nat) : Nat := c / pp_U u % (2 * u - 3)
theorem pp_u3 : pp_U 3 = 1 := rfl
theorem pp_u4 : pp_U 4 = 3 := rfl
theorem pp_u5 : pp_U 5 = 15 := rfl
theorem pp_u6 : pp_U 6 = 105 := rfl
theorem pp_dgs {t c q u : Nat} (k : pp_ok t c) (h5 : t ≤ 5) (hq : q < 2 * t - 3) (h3 : 3 ≤ u) (hu : u < t) : pp_dg (c + pp_U t * q) u = pp_dg c u := by
  obtain ⟨k1, k2, k3⟩ := k
  unfold pp_dg
  rcases (by omega : t = 4 ∧ u = 3 ∨ t = 5 ∧ u = 3 ∨ t = 5 ∧ u = 4) with ⟨rfl, rfl⟩ | ⟨rfl, rfl⟩ | ⟨rfl, rfl⟩ <;> simp only [Nat.reduceAdd, pp_u3, pp_u4, pp_u5, pp_u6] at * <;> omega
theorem pp_dgt {t c q : Nat} (k : pp_ok t c) (h5 : t ≤ 5) (hq : q < 2 * t - 3) : pp_dg (c + pp_U t * q) t = q := by
  obtain ⟨k1, k2, k3⟩ := k
  unfold pp_dg
  rcases (by omega : t = 3 ∨ t = 4 ∨ t = 5) with rfl | rfl | rfl <;> simp only [Nat.reduceAdd, pp_u3, pp_u4, pp_u5, pp_u6] at * <;> omega
/-- the code of the tree with one taxon fewer -/
theorem pp_dn {t c : Nat} (h3 : 3 ≤ t) (h5 : t ≤ 5) (hc : c < pp_U (t + 1)) : pp_ok t (c % pp_U t) ∧ c / pp_U t < 2 * t - 3 ∧ c % pp_U t + pp_U t * (c / pp_U t) = c := by
  rcases (by omega : t = 3 ∨ t = 4 ∨ t = 5) with rfl | rfl | rfl <;> simp only [pp_ok, Nat.reduceAdd, pp_u3, pp_u4, pp_u5, pp_u6] at * <;> omega
theorem pp_up {t c q : Nat} (k : pp_ok t c) (h5 : t ≤ 5) (hq : q < 2 * t - 3) : (c + pp_U t * q) % pp_U t = c ∧ (c + pp_U t * q) / pp_U t = q := by
  obtain ⟨k1, k2, k3⟩ := k
  rcases (by omega : t = 3 ∨ t = 4 ∨ t = 5) with rfl | rfl | rfl <;> simp only [Nat.reduceAdd, pp_u3, pp_u4, pp_u5, pp_u6] at * <;> omega
end
section
/-! Fitch's sets and counts, pure: S v is the set of taxon v at one site -/
def pp_cmb (a b : Nat × Nat) : Nat × Nat := if a.1 &&& b.1 = 0 then (a.1 ||| b.1, a.2 + b.2 + 1) else (a.1 &&& b.1, a.2 + b.2)
def pp_fit (t c : Nat) (S : Nat → Nat) : Nat → Nat → Nat × Nat
  | 0, v => (S v, 0)
  | d + 1, v => if v < 6 then (S v, 0) else pp_cmb (pp_fit t c S d (pp_L t c v)) (pp_fit t c S d (pp_R t c v))
def pp_fv (t c : Nat) (S : Nat → Nat) (v : Nat) : Nat × Nat := pp_fit t c S (5 - pp_D t c v) v
theorem pp_fvl {t c v : Nat} {S : Nat → Nat} (h : v < 6) : pp_fv t c S v = (S v, 0) := by
  unfold pp_fv
  generalize 5 - pp_D t c v = d
  cases d with
  | zero => rfl
  | succ d => exact if_pos h
theorem pp_fvi {t c v : Nat} {S : Nat → Nat} (k : pp_ok t c) (h6 : 6 ≤ v) (hv : v < t + 4) :
    pp_fv t c S v = pp_cmb (pp_fv t c S (pp_L t c v)) (pp_fv t c S (pp_R t c v)) := by
  have f := pp_in2 k h6 hv
  unfold pp_fv
  rw [f.2.2.1, f.2.2.2.1]
  have e : 5 - pp_D t c v = (5 - (pp_D t c v + 1)) + 1 := by omega
  rw [e]
  exact if_neg (by omega)
abbrev pp_sr (S : Nat → Nat) : Prop := ∀ v, v < 6 → 1 ≤ S v ∧ S v < 16
theorem pp_b1 : ∀ a, a < 16 → ∀ b, b < 16 → 1 ≤ a → (a ||| b) < 16 ∧ 1 ≤ (a ||| b) ∧ (a &&& b) < 16 := by decide +kernel
theorem pp_cr {a b : Nat × Nat} (ha : 1 ≤ a.1 ∧ a.1 < 16) (hb : 1 ≤ b.1 ∧ b.1 < 16) : 1 ≤ (pp_cmb a b).1 ∧ (pp_cmb a b).1 < 16 := by
  have f := pp_b1 a.1 ha.2 b.1 hb.2 ha.1
  unfold pp_cmb
  split
  · exact ⟨f.2.1, f.1⟩
  · exact ⟨by omega, f.2.2⟩
theorem pp_fr {t c : Nat} {S : Nat → Nat} (k : pp_ok t c) (hS : pp_sr S) : ∀ v, pp_nd t v → 1 ≤ (pp_fv t c S v).1 ∧ (pp_fv t c S v).1 < 16 := by
  refine pp_ind k _ ?_ ?_
  · intro v h1 h2
    rw [pp_fvl (by omega)]
    exact hS v (by omega)
  · intro v h6 hv hl hr
    rw [pp_fvi k h6 hv]
    exact pp_cr hl hr
/-! the order: more changes, or as many and a smaller set -/
def pp_le (a b : Nat × Nat) : Prop := a.2 < b.2 ∨ (a.2 = b.2 ∧ b.1 &&& a.1 = b.1)
theorem pp_s1a : ∀ a, a < 16 → ∀ b, b < 16 → ∀ d, d < 16 → d &&& a = d → a &&& b = 0 → d &&& b = 0 := by decide +kernel
theorem pp_s1b : ∀ a, a < 16 → ∀ b, b < 16 → ∀ d, d < 16 → d &&& a = d → (d ||| b) &&& (a ||| b) = d ||| b := by decide +kernel
theorem pp_s1 : ∀ a, a < 16 → ∀ b, b < 16 → ∀ d, d < 16 → d &&& a = d → a &&& b = 0 → d &&& b = 0 ∧ (d ||| b) &&& (a ||| b) = d ||| b :=
  fun a ha b hb d hd h1 h2 => ⟨pp_s1a a ha b hb d hd h1 h2, pp_s1b a ha b hb d hd h1⟩
theorem pp_s2 : ∀ a, a < 16 → ∀ b, b < 16 → ∀ d, d < 16 → d &&& a = d → (d &&& b) &&& (a &&& b) = d &&& b := by decide +kernel
theorem pp_s3 : ∀ a, a < 16 → ∀ b, b < 16 → ∀ d, d < 16 → (d &&& b) &&& (a ||| b) = d &&& b := by decide +kernel
theorem pp_s4 : ∀ a, a < 16 → ∀ b, b < 16 → (a &&& b) &&& a = a &&& b := by decide +kernel
theorem pp_s5 : ∀ a, a < 16 → ∀ b, b < 16 → ∀ d, d < 16 → d &&& b = d → b &&& a = b → d &&& a = d := by decide +kernel
theorem pp_ler (a : Nat × Nat) : pp_le a a := Or.inr ⟨rfl, Nat.and_self _⟩
theorem pp_let {a b d : Nat × Nat} (ha : a.1 < 16) (hb : b.1 < 16) (hd : d.1 < 16) (h1 : pp_le a b) (h2 : pp_le b d) : pp_le a d := by
  unfold pp_le at *
  rcases h1 with h1 | h1 <;> rcases h2 with h2 | h2
  · exact Or.inl (by omega)
  · exact Or.inl (by omega)
  · exact Or.inl (by omega)
  · exact Or.inr ⟨by omega, pp_s5 _ ha _ hb _ hd h2.2 h1.2⟩
theorem pp_lem {a d b : Nat × Nat} (ha : a.1 < 16) (hd : d.1 < 16) (hb : b.1 < 16) (h : pp_le a d) : pp_le (pp_cmb a b) (pp_cmb d b) := by
  unfold pp_le at *
  unfold pp_cmb
  rcases h with h | h
  · by_cases h1 : a.1 &&& b.1 = 0 <;> by_cases h2 : d.1 &&& b.1 = 0
    · rw [if_pos h1, if_pos h2]; exact Or.inl (by show a.2 + b.2 + 1 < d.2 + b.2 + 1; omega)
    · rw [if_pos h1, if_neg h2]
      show a.2 + b.2 + 1 < d.2 + b.2 ∨ (a.2 + b.2 + 1 = d.2 + b.2 ∧ (d.1 &&& b.1) &&& (a.1 ||| b.1) = d.1 &&& b.1)
      by_cases h3 : a.2 + b.2 + 1 < d.2 + b.2
      · exact Or.inl h3
      · exact Or.inr ⟨by omega, pp_s3 _ ha _ hb _ hd⟩
    · rw [if_neg h1, if_pos h2]; exact Or.inl (by show a.2 + b.2 < d.2 + b.2 + 1; omega)
    · rw [if_neg h1, if_neg h2]; exact Or.inl (by show a.2 + b.2 < d.2 + b.2; omega)
  · by_cases h1 : a.1 &&& b.1 = 0
    · have g := pp_s1 _ ha _ hb _ hd h.2 h1
      rw [if_pos h1, if_pos g.1]
      exact Or.inr ⟨by show a.2 + b.2 + 1 = d.2 + b.2 + 1; omega, g.2⟩
    · by_cases h2 : d.1 &&& b.1 = 0
      · rw [if_neg h1, if_pos h2]; exact Or.inl (by show a.2 + b.2 < d.2 + b.2 + 1; omega)
      · rw [if_neg h1, if_neg h2]
        exact Or.inr ⟨by show a.2 + b.2 = d.2 + b.2; omega, pp_s2 _ ha _ hb _ hd h.2⟩
theorem pp_cc (a b : Nat × Nat) : pp_cmb a b = pp_cmb b a := by
  unfold pp_cmb
  rw [Nat.and_comm a.1 b.1, Nat.or_comm a.1 b.1, Nat.add_comm a.2 b.2]
theorem pp_lec {a b : Nat × Nat} (ha : a.1 < 16) (hb : b.1 < 16) : pp_le a (pp_cmb a b) := by
  unfold pp_le pp_cmb
  by_cases h1 : a.1 &&& b.1 = 0
  · rw [if_pos h1]; exact Or.inl (by show a.2 < a.2 + b.2 + 1; omega)
  · rw [if_neg h1]
    show a.2 < a.2 + b.2 ∨ (a.2 = a.2 + b.2 ∧ (a.1 &&& b.1) &&& a.1 = a.1 &&& b.1)
    by_cases h3 : a.2 < a.2 + b.2
    · exact Or.inl h3
    · exact Or.inr ⟨by omega, pp_s4 _ ha _ hb⟩
/-- a taxon more: no node loses -/
theorem pp_mon {t c q : Nat} {S : Nat → Nat} (k : pp_ok t c) (h5 : t ≤ 5) (hq : q < 2 * t - 3) (hS : pp_sr S) :
    ∀ v, pp_nd t v → pp_le (pp_fv t c S v) (pp_fv (t + 1) (c + pp_U t * q) S v) := by
  have k' := pp_insk k h5 hq
  have I := pp_ins k h5 hq
  have nd' : ∀ v, pp_nd t v → pp_nd (t + 1) v := by intro v h; omega
  have hT : pp_nd (t + 1) t := by omega
  have hM : pp_nd (t + 1) (t + 4) := by omega
  have rg := pp_fr k hS
  have rg' := pp_fr k' hS
  have mid : ∀ v, pp_nd t v → v = pp_Lo t c q → pp_le (pp_fv t c S v) (pp_fv (t + 1) (c + pp_U t * q) S v) → pp_le (pp_fv t c S v) (pp_fv (t + 1) (c + pp_U t * q) S (t + 4)) := by
    intro v hv e h
    have e2 := pp_fvi (S := S) k' (v := t + 4) (by omega) (by omega)
    rw [I.2.2.2.2.1, I.2.2.2.2.2.1, ← e] at e2
    rw [e2]
    refine pp_let (rg v hv).2 (rg' v (nd' v hv)).2 ?_ h (pp_lec (rg' v (nd' v hv)).2 (rg' t hT).2)
    exact (pp_cr (rg' v (nd' v hv)) (rg' t hT)).2
  refine pp_ind k _ ?_ ?_
  · intro v h1 h2
    rw [pp_fvl (by omega), pp_fvl (by omega)]
    exact pp_ler _
  · intro v h6 hv hl hr
    have f := pp_in k h6 hv
    have C := pp_insC k h5 hq h6 hv
    have hl' : pp_le (pp_fv t c S (pp_L t c v)) (pp_fv (t + 1) (c + pp_U t * q) S (pp_L (t + 1) (c + pp_U t * q) v)) := by
      rw [C.1]
      by_cases e : pp_L t c v = pp_Lo t c q
      · rw [if_pos e]; exact mid _ f.1 e hl
      · rw [if_neg e]; exact hl
    have hr' : pp_le (pp_fv t c S (pp_R t c v)) (pp_fv (t + 1) (c + pp_U t * q) S (pp_R (t + 1) (c + pp_U t * q) v)) := by
      rw [C.2]
      by_cases e : pp_R t c v = pp_Lo t c q
      · rw [if_pos e]; exact mid _ f.2.1 e hr
      · rw [if_neg e]; exact hr
    have f' := pp_in k' h6 (by omega : v < t + 1 + 4)
    have a1 := rg _ f.1
    have a2 := rg _ f.2.1
    have a3 := rg' _ f'.1
    have a4 := rg' _ f'.2.1
    rw [pp_fvi k h6 hv, pp_fvi k' h6 (by omega)]
    refine pp_let (pp_cr a1 a2).2 (pp_cr a3 a2).2 (pp_cr a3 a4).2 (pp_lem a1.2 a3.2 a2.2 hl') ?_
    rw [pp_cc _ (pp_fv t c S (pp_R t c v)), pp_cc _ (pp_fv (t + 1) (c + pp_U t * q) S (pp_R (t + 1) (c + pp_U t * q) v))]
    exact pp_lem a2.2 a4.2 a3.2 hr'
/-- the changes of the whole tree -/
def pp_rz (p : Nat × Nat) (z : Nat) : Nat := if p.1 &&& z = 0 then 1 else 0
def pp_N (t c : Nat) (S : Nat → Nat) : Nat := (pp_fv t c S (pp_Rc t c)).2 + pp_rz (pp_fv t c S (pp_Rc t c)) (S 0)
theorem pp_rzm {a d : Nat × Nat} {z : Nat} (ha : a.1 < 16) (hd : d.1 < 16) (hz : z < 16) (h : pp_le a d) : a.2 + pp_rz a z ≤ d.2 + pp_rz d z := by
  unfold pp_le at h
  unfold pp_rz
  rcases h with h | h
  · split <;> split <;> omega
  · by_cases h1 : a.1 &&& z = 0
    · rw [if_pos h1, if_pos (pp_s1 _ ha _ hz _ hd h.2 h1).1]; omega
    · rw [if_neg h1]; omega
theorem pp_Nm {t c q : Nat} {S : Nat → Nat} (k : pp_ok t c) (h5 : t ≤ 5) (hq : q < 2 * t - 3) (hS : pp_sr S) : pp_N t c S ≤ pp_N (t + 1) (c + pp_U t * q) S := by
  have k' := pp_insk k h5 hq
  have I := pp_ins k h5 hq
  have r := pp_rt k
  have r' := pp_rt k'
  have hn : pp_nd t (pp_Rc t c) := Or.inr r.1
  have hn' : pp_nd (t + 1) (pp_Rc (t + 1) (c + pp_U t * q)) := Or.inr r'.1
  have rg := pp_fr k hS
  have rg' := pp_fr k' hS
  unfold pp_N
  refine pp_rzm (rg _ hn).2 (rg' _ hn').2 (hS 0 (by omega)).2 ?_
  have m := pp_mon k h5 hq hS _ hn
  rw [I.2.2.2.2.2.2.1]
  by_cases e : pp_P t c (pp_Lo t c q) = 0
  · rw [if_pos e]
    have el := (pp_no k (pp_ed k hq).1).2.1 e
    have e2 := pp_fvi (S := S) k' (v := t + 4) (by omega) (by omega)
    rw [I.2.2.2.2.1, I.2.2.2.2.2.1, el] at e2
    rw [e2]
    have hn1 : pp_nd (t + 1) (pp_Rc t c) := by omega
    have hT : pp_nd (t + 1) t := by omega
    exact pp_let (rg _ hn).2 (rg' _ hn1).2 (pp_cr (rg' _ hn1) (rg' t hT)).2 m (pp_lec (rg' _ hn1).2 (rg' t hT).2)
  · rw [if_neg e]; exact m
/-! the score: weights W, sets S at v * 8 + s -/
def pp_sat (S : Nat → Nat) (s : Nat) : Nat → Nat := fun v => S (v * 8 + s)
def pp_sc (t c : Nat) (S W : Nat → Nat) : Nat → Nat
  | 0 => 0
  | s + 1 => pp_sc t c S W s + W s * pp_N t c (pp_sat S s)
abbrev pp_SR (S : Nat → Nat) : Prop := ∀ i, i < 48 → 1 ≤ S i ∧ S i < 16
theorem pp_sats {S : Nat → Nat} (h : pp_SR S) {s : Nat} (hs : s < 8) : pp_sr (pp_sat S s) := fun v hv => h (v * 8 + s) (by omega)
theorem pp_scm {t c q : Nat} {S W : Nat → Nat} (k : pp_ok t c) (h5 : t ≤ 5) (hq : q < 2 * t - 3) (hS : pp_SR S) :
    ∀ m, m ≤ 8 → pp_sc t c S W m ≤ pp_sc (t + 1) (c + pp_U t * q) S W m := by
  intro m
  induction m with
  | zero => intro _; exact Nat.le_refl _
  | succ s ih =>
    intro hm
    exact Nat.add_le_add (ih (by omega)) (Nat.mul_le_mul_left _ (pp_Nm k h5 hq (pp_sats hS (by omega))))
/-! the count as a sum over the inner nodes -/
def pp_ch (t c : Nat) (S : Nat → Nat) (v : Nat) : Nat := pp_rz (pp_fv t c S (pp_L t c v)) (pp_fv t c S (pp_R t c v)).1
def pp_ms (t c : Nat) (g : Nat → Nat) : Nat → Nat → Nat
  | 0, _ => 0
  | d + 1, v => if v < 6 then 0 else g v + pp_ms t c g d (pp_L t c v) + pp_ms t c g d (pp_R t c v)
theorem pp_c2 (a b : Nat × Nat) : (pp_cmb a b).2 = a.2 + b.2 + pp_rz a b.1 := by
  unfold pp_cmb pp_rz
  split <;> rfl
theorem pp_msf {t c : Nat} {S : Nat → Nat} (k : pp_ok t c) : ∀ v, pp_nd t v → (pp_fv t c S v).2 = pp_ms t c (pp_ch t c S) (5 - pp_D t c v) v := by
  refine pp_ind k _ ?_ ?_
  · intro v h1 h2
    rw [pp_fvl (by omega)]
    generalize 5 - pp_D t c v = d
    cases d with
    | zero => rfl
    | succ d => exact (if_pos (by omega)).symm
  · intro v h6 hv hl hr
    have f := pp_in2 k h6 hv
    rw [f.2.2.1] at hl
    rw [f.2.2.2.1] at hr
    have e : 5 - pp_D t c v = (5 - (pp_D t c v + 1)) + 1 := by omega
    rw [pp_fvi k h6 hv, pp_c2, hl, hr, e]
    refine Eq.trans ?_ (if_neg (by omega : ¬ v < 6)).symm
    show _ = pp_rz (pp_fv t c S (pp_L t c v)) (pp_fv t c S (pp_R t c v)).1 + _ + _
    omega
def pp_dl (u v : Nat) : Nat := if v = u then 1 else 0
theorem pp_msl {t c : Nat} (g : Nat → Nat) : ∀ d v, v < 10 → pp_ms t c g d v =
    g 6 * pp_ms t c (pp_dl 6) d v + g 7 * pp_ms t c (pp_dl 7) d v + g 8 * pp_ms t c (pp_dl 8) d v + g 9 * pp_ms t c (pp_dl 9) d v := by
  intro d
  induction d with
  | zero => intro v hv; rfl
  | succ d ih =>
    intro v hv
    by_cases h : v < 6
    · have z : ∀ g, pp_ms t c g (d + 1) v = 0 := fun g => if_pos h
      simp only [z, Nat.mul_zero, Nat.add_zero]
    · have z : ∀ g, pp_ms t c g (d + 1) v = g v + pp_ms t c g d (pp_L t c v) + pp_ms t c g d (pp_R t c v) := fun g => if_neg h
      rw [z, z, z, z, z, ih _ (pp_l10 t c v), ih _ (pp_r10 t c v)]
      have e : g v = g 6 * pp_dl 6 v + g 7 * pp_dl 7 v + g 8 * pp_dl 8 v + g 9 * pp_dl 9 v := by
        rcases (by omega : v = 6 ∨ v = 7 ∨ v = 8 ∨ v = 9) with rfl | rfl | rfl | rfl <;> simp [pp_dl]
      rw [e]
      simp only [Nat.mul_add]
      omega
theorem pp_d11 {t c u : Nat} (k : pp_ok t c) (hu : u < 10) (h6 : 6 ≤ u) : pp_ms t c (pp_dl u) 4 (pp_Rc t c) = if u < t + 4 then 1 else 0 :=
  of_decide_eq_true (pp_al3 (p := fun t c u => decide (6 ≤ u → pp_ms t c (pp_dl u) 4 (pp_Rc t c) = if u < t + 4 then 1 else 0)) (by decide +kernel) k hu) h6
def pp_cu (t c : Nat) (S : Nat → Nat) (u : Nat) : Nat := if u < t + 4 then pp_ch t c S u else 0
theorem pp_Ns {t c : Nat} {S : Nat → Nat} (k : pp_ok t c) :
    pp_N t c S = pp_rz (pp_fv t c S (pp_Rc t c)) (S 0) + pp_cu t c S 6 + pp_cu t c S 7 + pp_cu t c S 8 + pp_cu t c S 9 := by
  have r := pp_rt k
  have e := pp_msf (S := S) k _ (Or.inr r.1 : pp_nd t (pp_Rc t c))
  rw [r.2.2.1, pp_msl _ _ _ (by omega), pp_d11 (u := 6) k (by omega) (by omega), pp_d11 (u := 7) k (by omega) (by omega),
    pp_d11 (u := 8) k (by omega) (by omega), pp_d11 (u := 9) k (by omega) (by omega)] at e
  unfold pp_N
  rw [e]
  have w : ∀ u, pp_ch t c S u * (if u < t + 4 then 1 else 0) = pp_cu t c S u := by
    intro u
    unfold pp_cu
    split <;> simp
  rw [w, w, w, w]
  omega
theorem pp_rz1 (p : Nat × Nat) (z : Nat) : pp_rz p z ≤ 1 := by unfold pp_rz; split <;> omega
theorem pp_cu1 (t c : Nat) (S : Nat → Nat) (u : Nat) : pp_cu t c S u ≤ 1 := by
  unfold pp_cu
  split
  · exact pp_rz1 _ _
  · omega
theorem pp_N5 {t c : Nat} {S : Nat → Nat} (k : pp_ok t c) : pp_N t c S ≤ 5 := by
  rw [pp_Ns k]
  have a := pp_rz1 (pp_fv t c S (pp_Rc t c)) (S 0)
  have b := pp_cu1 t c S 6
  have d := pp_cu1 t c S 7
  have e := pp_cu1 t c S 8
  have f := pp_cu1 t c S 9
  omega
/-- a sum over the sites -/
def pp_su (W : Nat → Nat) (g : Nat → Nat) : Nat → Nat
  | 0 => 0
  | s + 1 => pp_su W g s + W s * g s
theorem pp_scs {t c : Nat} {S W : Nat → Nat} (k : pp_ok t c) : ∀ m, pp_sc t c S W m =
    pp_su W (fun s => pp_rz (pp_fv t c (pp_sat S s) (pp_Rc t c)) (S s)) m + pp_su W (fun s => pp_cu t c (pp_sat S s) 6) m + pp_su W (fun s => pp_cu t c (pp_sat S s) 7) m
    + pp_su W (fun s => pp_cu t c (pp_sat S s) 8) m + pp_su W (fun s => pp_cu t c (pp_sat S s) 9) m := by
  intro m
  induction m with
  | zero => rfl
  | succ s ih =>
    have e : pp_sat S s 0 = S s := by unfold pp_sat; rw [Nat.zero_mul, Nat.zero_add]
    unfold pp_sc pp_su
    rw [ih, pp_Ns k, e]
    simp only [Nat.mul_add]
    omega
theorem pp_scb {t c : Nat} {S W : Nat → Nat} (k : pp_ok t c) (hW : ∀ s, s < 8 → W s ≤ 9) : ∀ m, m ≤ 8 → pp_sc t c S W m ≤ m * 45 := by
  intro m
  induction m with
  | zero => intro _; exact Nat.le_refl _
  | succ s ih =>
    intro hm
    have a := Nat.mul_le_mul (hW s (by omega)) (pp_N5 (S := pp_sat S s) k)
    have b := ih (by omega)
    unfold pp_sc
    omega
end
section
/-! the reference's costs: below an edge, at state f, count + [f not in the set] -/
def pp_zb (F f : Nat) : Nat := if F.testBit f then 0 else 1
def pp_gg (p : Nat × Nat) (f : Nat) : Nat := p.2 + pp_zb p.1 f
def pp_ne (s f : Nat) : Nat := if s = f then 0 else 1
def pp_jm (x : Nat → Nat) (s : Nat) : Nat → Nat
  | 0 => 1000
  | f + 1 => min (pp_jm x s f) (x f + pp_ne s f)
def pp_km (x : Nat → Nat) : Nat → Nat
  | 0 => 1000
  | f + 1 => min (pp_km x f) (x f)
def pp_lf (F f : Nat) : Nat := if F.testBit f then 0 else 100
theorem pp_zb1 (F f : Nat) : pp_zb F f ≤ 1 := by unfold pp_zb; split <;> omega
theorem pp_ne1 (s f : Nat) : pp_ne s f ≤ 1 := by unfold pp_ne; split <;> omega
theorem pp_jd : ∀ A, A < 16 → ∀ B, B < 16 → 1 ≤ A → 1 ≤ B → ∀ s, s < 4 → pp_jm (fun f => pp_zb A f + pp_zb B f) s 4 = pp_gg (pp_cmb (A, 0) (B, 0)) s := by decide +kernel
theorem pp_jl : ∀ A, A < 16 → 1 ≤ A → ∀ s, s < 4 → pp_jm (fun f => pp_lf A f) s 4 = pp_zb A s := by decide +kernel
theorem pp_kd : ∀ A, A < 16 → ∀ B, B < 16 → 1 ≤ A → 1 ≤ B → pp_km (fun f => pp_lf B f + pp_zb A f) 4 = pp_rz (A, 0) B := by decide +kernel
theorem pp_jx {x y : Nat → Nat} (s : Nat) (h : ∀ f, f < 4 → x f = y f) : pp_jm x s 4 = pp_jm y s 4 := by
  unfold pp_jm pp_jm pp_jm pp_jm pp_jm
  rw [h 0 (by omega), h 1 (by omega), h 2 (by omega), h 3 (by omega)]
theorem pp_js {y : Nat → Nat} (M s : Nat) (h : ∀ f, f < 4 → y f ≤ 400) (hM : M ≤ 400) : pp_jm (fun f => M + y f) s 4 = M + pp_jm y s 4 := by
  unfold pp_jm pp_jm pp_jm pp_jm pp_jm
  have a0 := h 0 (by omega)
  have a1 := h 1 (by omega)
  have a2 := h 2 (by omega)
  have a3 := h 3 (by omega)
  have b0 := pp_ne1 s 0
  have b1 := pp_ne1 s 1
  have b2 := pp_ne1 s 2
  have b3 := pp_ne1 s 3
  generalize pp_ne s 0 = c0 at *
  generalize pp_ne s 1 = c1 at *
  generalize pp_ne s 2 = c2 at *
  generalize pp_ne s 3 = c3 at *
  generalize y 0 = y0 at *
  generalize y 1 = y1 at *
  generalize y 2 = y2 at *
  generalize y 3 = y3 at *
  omega
theorem pp_ks {y : Nat → Nat} (M : Nat) (h : ∀ f, f < 4 → y f ≤ 400) (hM : M ≤ 400) : pp_km (fun f => M + y f) 4 = M + pp_km y 4 := by
  unfold pp_km pp_km pp_km pp_km pp_km
  have a0 := h 0 (by omega)
  have a1 := h 1 (by omega)
  have a2 := h 2 (by omega)
  have a3 := h 3 (by omega)
  generalize y 0 = y0 at *
  generalize y 1 = y1 at *
  generalize y 2 = y2 at *
  generalize y 3 = y3 at *
  omega
theorem pp_kx {x y : Nat → Nat} (h : ∀ f, f < 4 → x f = y f) : pp_km x 4 = pp_km y 4 := by
  unfold pp_km pp_km pp_km pp_km pp_km
  rw [h 0 (by omega), h 1 (by omega), h 2 (by omega), h 3 (by omega)]
theorem pp_gc (a b : Nat × Nat) (s : Nat) : pp_gg (pp_cmb a b) s = (a.2 + b.2) + pp_gg (pp_cmb (a.1, 0) (b.1, 0)) s := by
  unfold pp_gg pp_cmb
  by_cases h : a.1 &&& b.1 = 0
  · rw [if_pos h, if_pos h]; show a.2 + b.2 + 1 + pp_zb (a.1 ||| b.1) s = a.2 + b.2 + (0 + 0 + 1 + pp_zb (a.1 ||| b.1) s); omega
  · rw [if_neg h, if_neg h]; show a.2 + b.2 + pp_zb (a.1 &&& b.1) s = a.2 + b.2 + (0 + 0 + pp_zb (a.1 &&& b.1) s); omega
/-- an inner node -/
theorem pp_jin {a b : Nat × Nat} (ha : 1 ≤ a.1 ∧ a.1 < 16) (hb : 1 ≤ b.1 ∧ b.1 < 16) (hM : a.2 + b.2 ≤ 400) {x : Nat → Nat} (hx : ∀ f, f < 4 → x f = pp_gg a f + pp_gg b f) {s : Nat} (hs : s < 4) :
    pp_jm x s 4 = pp_gg (pp_cmb a b) s := by
  rw [pp_gc, ← pp_jd a.1 ha.2 b.1 hb.2 ha.1 hb.1 s hs, ← pp_js (a.2 + b.2) s _ hM]
  · refine pp_jx s fun f hf => ?_
    rw [hx f hf]
    show a.2 + _ + (b.2 + _) = a.2 + b.2 + (_ + _)
    omega
  · intro f hf
    have := pp_zb1 a.1 f
    have := pp_zb1 b.1 f
    show pp_zb a.1 f + pp_zb b.1 f ≤ 400
    omega
/-- a leaf -/
theorem pp_jlf {A : Nat} (hA : 1 ≤ A ∧ A < 16) {x : Nat → Nat} (hx : ∀ f, f < 4 → x f = pp_lf A f) {s : Nat} (hs : s < 4) : pp_jm x s 4 = pp_gg (A, 0) s := by
  rw [pp_jx (y := fun f => pp_lf A f) s hx, pp_jl A hA.2 hA.1 s hs]
  exact (Nat.zero_add _).symm
/-- taxon 0 -/
theorem pp_k0 {a : Nat × Nat} {B : Nat} (ha : 1 ≤ a.1 ∧ a.1 < 16) (hB : 1 ≤ B ∧ B < 16) (hM : a.2 ≤ 400) {x : Nat → Nat} (hx : ∀ f, f < 4 → x f = pp_lf B f + pp_gg a f) : pp_km x 4 = a.2 + pp_rz a B := by
  have e : pp_rz a B = pp_rz (a.1, 0) B := rfl
  rw [e, ← pp_kd a.1 ha.2 B hB.2 ha.1 hB.1, ← pp_ks a.2 _ hM]
  · refine pp_kx fun f hf => ?_
    rw [hx f hf]
    show pp_lf B f + (a.2 + pp_zb a.1 f) = a.2 + (pp_lf B f + pp_zb a.1 f)
    omega
  · intro f hf
    have := pp_zb1 a.1 f
    have h2 : pp_lf B f ≤ 100 := by unfold pp_lf; split <;> omega
    show pp_lf B f + pp_zb a.1 f ≤ 400
    omega
/-- counts are small -/
theorem pp_f2 {t c : Nat} {S : Nat → Nat} (k : pp_ok t c) (v : Nat) (h : pp_nd t v) : (pp_fv t c S v).2 ≤ 100 := by
  have aux : ∀ d v, (pp_fit t c S d v).2 ≤ 2 ^ d - 1 := by
    intro d
    induction d with
    | zero => intro v; exact Nat.zero_le _
    | succ d ih =>
      intro v
      by_cases hv : v < 6
      · have e : pp_fit t c S (d + 1) v = (S v, 0) := if_pos hv
        rw [e]; exact Nat.zero_le _
      · have e : pp_fit t c S (d + 1) v = pp_cmb (pp_fit t c S d (pp_L t c v)) (pp_fit t c S d (pp_R t c v)) := if_neg hv
        rw [e, pp_c2]
        have h1 := ih (pp_L t c v)
        have h2 := ih (pp_R t c v)
        have h3 := pp_rz1 (pp_fit t c S d (pp_L t c v)) (pp_fit t c S d (pp_R t c v)).1
        have h4 : 0 < 2 ^ d := Nat.two_pow_pos d
        have h5 : 2 ^ (d + 1) = 2 ^ d * 2 := Nat.pow_succ ..
        omega
  have g := aux (5 - pp_D t c v) v
  have h : 2 ^ (5 - pp_D t c v) ≤ 2 ^ 5 := Nat.pow_le_pow_right (by omega) (by omega)
  unfold pp_fv
  omega
end
section
/-! the search, pure: leaves in its order, what a visit does, what all visits give -/
def pp_lv : Nat → Nat → Nat → List Nat
  | 0, _, c => [c]
  | k + 1, t, c => (List.range' 0 (2 * t - 3)).flatMap (fun q => pp_lv k (t + 1) (c + pp_U t * q))
/-- what is left at level j + 3, code c so far, from choice q on -/
def pp_rs (n : Nat) : Nat → Nat → Nat → List Nat
  | 0, c, q => (List.range' q (3 - q)).flatMap (fun p => pp_lv (n - 4) 4 (c + pp_U 3 * p))
  | j + 1, c, q => (List.range' q (2 * (j + 4) - 3 - q)).flatMap (fun p => pp_lv (n - (j + 5)) (j + 5) (c + pp_U (j + 4) * p)) ++ pp_rs n j (c % pp_U (j + 3)) (c / pp_U (j + 3) + 1)
/-- steps: a level from its start; what is left -/
def pp_sS : Nat → Nat → Nat
  | 0, _ => 0
  | k + 1, t => (2 * t - 3) * (1 + pp_sS k (t + 1)) + 1
def pp_rm (n : Nat) : Nat → Nat → Nat → Nat
  | 0, _, q => (3 - q) * (1 + pp_sS (n - 4) 4) + 1
  | j + 1, c, q => (2 * (j + 4) - 3 - q) * (1 + pp_sS (n - (j + 5)) (j + 5)) + 1 + pp_rm n j (c % pp_U (j + 3)) (c / pp_U (j + 3) + 1)
/-- one choice taken off -/
theorem pp_rsq {n j c q : Nat} (hj : j ≤ 2) (hq : q < 2 * (j + 3) - 3) : pp_rs n j c q = pp_lv (n - (j + 4)) (j + 4) (c + pp_U (j + 3) * q) ++ pp_rs n j c (q + 1) := by
  cases j with
  | zero =>
    have e : 3 - q = (3 - (q + 1)) + 1 := by omega
    unfold pp_rs
    rw [e, List.range'_succ, List.flatMap_cons]
  | succ j =>
    have e : 2 * (j + 4) - 3 - q = (2 * (j + 4) - 3 - (q + 1)) + 1 := by omega
    unfold pp_rs
    rw [e, List.range'_succ, List.flatMap_cons, List.append_assoc]
theorem pp_rmq {n j c q : Nat} (hj : j ≤ 2) (hq : q < 2 * (j + 3) - 3) : pp_rm n j c q = 1 + pp_sS (n - (j + 4)) (j + 4) + pp_rm n j c (q + 1) := by
  cases j with
  | zero =>
    have e : 3 - q = (3 - (q + 1)) + 1 := by omega
    unfold pp_rm
    rw [e, Nat.succ_mul]
    show _ = 1 + pp_sS (n - 4) 4 + _
    omega
  | succ j =>
    have e : 2 * (j + 4) - 3 - q = (2 * (j + 4) - 3 - (q + 1)) + 1 := by omega
    unfold pp_rm
    rw [e, Nat.succ_mul]
    show _ = 1 + pp_sS (n - (j + 5)) (j + 5) + _
    omega
/-- a level used up -/
theorem pp_rse {n j c : Nat} : pp_rs n (j + 1) c (2 * (j + 4) - 3) = pp_rs n j (c % pp_U (j + 3)) (c / pp_U (j + 3) + 1) := by
  have e : 2 * (j + 4) - 3 - (2 * (j + 4) - 3) = 0 := by omega
  show (List.range' _ (2 * (j + 4) - 3 - (2 * (j + 4) - 3))).flatMap _ ++ _ = _
  rw [e]
  rfl
theorem pp_rme {n j c : Nat} : pp_rm n (j + 1) c (2 * (j + 4) - 3) = 1 + pp_rm n j (c % pp_U (j + 3)) (c / pp_U (j + 3) + 1) := by
  have e : 2 * (j + 4) - 3 - (2 * (j + 4) - 3) = 0 := by omega
  show (2 * (j + 4) - 3 - (2 * (j + 4) - 3)) * _ + 1 + _ = _
  rw [e]
  omega
theorem pp_rs0 {n c : Nat} : pp_rs n 0 c 3 = [] := rfl
/-- a level down -/
theorem pp_rsd {n j c q : Nat} (hj : j ≤ 1) (hn : j + 5 ≤ n) (k : pp_ok (j + 3) c) (hq : q < 2 * (j + 3) - 3) :
    pp_rs n (j + 1) (c + pp_U (j + 3) * q) 0 = pp_rs n j c q := by
  have u := pp_up k (by omega) hq
  rw [pp_rsq (n := n) (by omega) hq]
  have e : n - (j + 4) = (n - (j + 5)) + 1 := by omega
  rw [e]
  show (List.range' 0 (2 * (j + 4) - 3 - 0)).flatMap _ ++ pp_rs n j ((c + pp_U (j + 3) * q) % pp_U (j + 3)) ((c + pp_U (j + 3) * q) / pp_U (j + 3) + 1) = _
  rw [u.1, u.2]
  rfl
theorem pp_rmd {n j c q : Nat} (hj : j ≤ 1) (hn : j + 5 ≤ n) (k : pp_ok (j + 3) c) (hq : q < 2 * (j + 3) - 3) :
    pp_rm n (j + 1) (c + pp_U (j + 3) * q) 0 + 1 = pp_rm n j c q := by
  have u := pp_up k (by omega) hq
  rw [pp_rmq (n := n) (by omega) hq]
  have e : n - (j + 4) = (n - (j + 5)) + 1 := by omega
  rw [e]
  show (2 * (j + 4) - 3 - 0) * (1 + pp_sS (n - (j + 5)) (j + 5)) + 1 + pp_rm n j ((c + pp_U (j + 3) * q) % pp_U (j + 3)) ((c + pp_U (j + 3) * q) / pp_U (j + 3) + 1) + 1 = 1 + ((2 * (j + 4) - 3) * (1 + pp_sS (n - (j + 5)) (j + 5)) + 1) + _
  rw [u.1, u.2, Nat.sub_zero]
  omega
theorem pp_rm1 (n j c q : Nat) : 1 ≤ pp_rm n j c q := by
  cases j <;> unfold pp_rm <;> omega
theorem pp_rmi : ∀ n, n < 7 → 4 ≤ n → pp_rm n 0 0 0 ≤ 142 := by decide +kernel
theorem pp_rsi {n : Nat} (h : 4 ≤ n) : pp_rs n 0 0 0 = pp_lv (n - 3) 3 0 := by
  have e : n - 3 = (n - 4) + 1 := by omega
  rw [e]
  rfl
theorem pp_perm : ∀ n, n < 7 → 3 ≤ n → (pp_lv (n - 3) 3 0).Perm (List.range (pp_U n)) := by decide +kernel
/-- leaves below a node score no less -/
theorem pp_lvm {n m : Nat} {S W : Nat → Nat} (hS : pp_SR S) (hm : m ≤ 8) (hn : n ≤ 6) : ∀ k t c, t + k = n → pp_ok t c → ∀ x, x ∈ pp_lv k t c → pp_ok n x ∧ pp_sc t c S W m ≤ pp_sc n x S W m := by
  intro k
  induction k with
  | zero =>
    intro t c e ok x hx
    have h : x = c := List.mem_singleton.mp hx
    have h2 : t = n := by omega
    subst h h2
    exact ⟨ok, Nat.le_refl _⟩
  | succ k ih =>
    intro t c e ok x hx
    obtain ⟨q, hq, hx⟩ := List.mem_flatMap.mp hx
    have hq : q < 2 * t - 3 := by
      have := (List.mem_range'_1.mp hq).2
      omega
    have h := ih (t + 1) _ (by omega) (pp_insk ok (by omega) hq) x hx
    exact ⟨h.1, Nat.le_trans (pp_scm ok (by omega) hq hS m hm) h.2⟩
/-! a visit: the state is (limit, trees, trees with the split, smallest code + 1 or 0) -/
abbrev pp_St : Type := Nat × Nat × Nat × Nat
def pp_v1 (hs : Nat → Bool) (st : pp_St) (x : Nat) : pp_St :=
  (st.1, st.2.1 + 1, if hs x then st.2.2.1 + 1 else st.2.2.1, if st.2.2.2 = 0 ∨ x + 1 < st.2.2.2 then x + 1 else st.2.2.2)
def pp_v (sc : Nat → Nat) (tg : Bool) (hs : Nat → Bool) (st : pp_St) (x : Nat) : pp_St :=
  if st.1 < sc x then st else if tg = true ∧ sc x < st.1 then pp_v1 hs (sc x, 0, st.2.2.1, 0) x else pp_v1 hs st x
theorem pp_vno {sc : Nat → Nat} {tg : Bool} {hs : Nat → Bool} : ∀ (l : List Nat) (st : pp_St), (∀ x, x ∈ l → st.1 < sc x) → l.foldl (pp_v sc tg hs) st = st := by
  intro l
  induction l with
  | nil => intro st _; rfl
  | cons a l ih =>
    intro st h
    have e : pp_v sc tg hs st a = st := if_pos (h a (List.mem_cons_self ..))
    rw [List.foldl_cons, e]
    exact ih st fun x hx => h x (List.mem_cons_of_mem _ hx)
/-- without tightening: counts -/
theorem pp_vct {sc : Nat → Nat} {hs : Nat → Bool} {L : Nat} : ∀ (l : List Nat) (st : pp_St), st.1 = L →
    (l.foldl (pp_v sc false hs) st).2.1 = st.2.1 + l.countP (fun x => decide (sc x ≤ L)) ∧
    (l.foldl (pp_v sc false hs) st).2.2.1 = st.2.2.1 + l.countP (fun x => decide (sc x ≤ L) && hs x) := by
  intro l
  induction l with
  | nil => intro st _; exact ⟨rfl, rfl⟩
  | cons a l ih =>
    intro st hL
    rw [List.foldl_cons, List.countP_cons, List.countP_cons]
    by_cases h : st.1 < sc a
    · have e : pp_v sc false hs st a = st := if_pos h
      have d : decide (sc a ≤ L) = false := decide_eq_false (by omega)
      rw [e, d]
      exact ih st hL
    · have e : pp_v sc false hs st a = pp_v1 hs st a := by
        unfold pp_v
        rw [if_neg h, if_neg (by intro z; exact absurd z.1 (by decide))]
      have d : decide (sc a ≤ L) = true := decide_eq_true (by omega)
      rw [e, d]
      have g := ih (pp_v1 hs st a) hL
      rw [g.1, g.2]
      refine ⟨?_, ?_⟩
      · show st.2.1 + 1 + _ = _
        simp only [if_true]
        omega
      · show (if hs a then st.2.2.1 + 1 else st.2.2.1) + _ = _
        cases hs a <;> simp <;> omega
/-- with tightening: the least score and its smallest code -/
def pp_bi (sc : Nat → Nat) (B : Nat) (Q : Nat → Prop) (st : pp_St) : Prop :=
  (st.1 = B ∧ st.2.2.2 = 0 ∧ ∀ x, ¬ Q x) ∨ (∃ b, st.2.2.2 = b + 1 ∧ st.1 = sc b ∧ Q b ∧ ∀ x, Q x → sc b ≤ sc x ∧ (sc x = sc b → b ≤ x))
theorem pp_vbs {sc : Nat → Nat} {hs : Nat → Bool} {B : Nat} : ∀ (l : List Nat) (st : pp_St) (Q : Nat → Prop), (∀ x, x ∈ l → sc x < B) → pp_bi sc B Q st →
    pp_bi sc B (fun x => Q x ∨ x ∈ l) (l.foldl (pp_v sc true hs) st) := by
  intro l
  induction l with
  | nil =>
    intro st Q _ h
    have e : (fun x => Q x ∨ x ∈ ([] : List Nat)) = Q := by
      funext x
      simp
    rw [e]
    exact h
  | cons a l ih =>
    intro st Q hB h
    rw [List.foldl_cons]
    have e : (fun x => Q x ∨ x ∈ a :: l) = (fun x => (Q x ∨ x = a) ∨ x ∈ l) := by
      funext x
      simp only [List.mem_cons, or_assoc]
    rw [e]
    refine ih _ (fun x => Q x ∨ x = a) (fun x hx => hB x (List.mem_cons_of_mem _ hx)) ?_
    have ha := hB a (List.mem_cons_self ..)
    rcases h with ⟨h1, h2, h3⟩ | ⟨b, h1, h2, h3, h4⟩
    · have e1 : pp_v sc true hs st a = pp_v1 hs (sc a, 0, st.2.2.1, 0) a := by
        unfold pp_v
        rw [if_neg (by omega), if_pos ⟨rfl, by omega⟩]
      rw [e1]
      refine Or.inr ⟨a, (by show (if (0 : Nat) = 0 ∨ a + 1 < 0 then a + 1 else 0) = a + 1; exact if_pos (Or.inl rfl)), rfl, Or.inr rfl, ?_⟩
      intro x hx
      rcases hx with hx | hx
      · exact absurd hx (h3 x)
      · subst hx
        exact ⟨Nat.le_refl _, fun _ => Nat.le_refl _⟩
    · by_cases c1 : st.1 < sc a
      · have e1 : pp_v sc true hs st a = st := if_pos c1
        rw [e1]
        refine Or.inr ⟨b, h1, h2, Or.inl h3, ?_⟩
        intro x hx
        rcases hx with hx | hx
        · exact h4 x hx
        · subst hx
          exact ⟨by omega, fun z => absurd z (by omega)⟩
      · by_cases c2 : sc a < st.1
        · have e1 : pp_v sc true hs st a = pp_v1 hs (sc a, 0, st.2.2.1, 0) a := by
            unfold pp_v
            rw [if_neg c1, if_pos ⟨rfl, c2⟩]
          rw [e1]
          refine Or.inr ⟨a, (by show (if (0 : Nat) = 0 ∨ a + 1 < 0 then a + 1 else 0) = a + 1; exact if_pos (Or.inl rfl)), rfl, Or.inr rfl, ?_⟩
          intro x hx
          rcases hx with hx | hx
          · have := (h4 x hx).1
            exact ⟨by omega, fun z => absurd z (by omega)⟩
          · subst hx
            exact ⟨Nat.le_refl _, fun _ => Nat.le_refl _⟩
        · have e1 : pp_v sc true hs st a = pp_v1 hs st a := by
            unfold pp_v
            rw [if_neg c1, if_neg (fun z => c2 z.2)]
          rw [e1]
          have hz : ¬ st.2.2.2 = 0 := by omega
          by_cases c3 : a + 1 < st.2.2.2
          · refine Or.inr ⟨a, if_pos (Or.inr c3), ?_, Or.inr rfl, ?_⟩
            · show st.1 = sc a
              omega
            · intro x hx
              rcases hx with hx | hx
              · have g := h4 x hx
                refine ⟨by omega, fun z => ?_⟩
                have := g.2 (by omega)
                omega
              · subst hx
                exact ⟨Nat.le_refl _, fun _ => Nat.le_refl _⟩
          · refine Or.inr ⟨b, ?_, h2, Or.inl h3, ?_⟩
            · show (if st.2.2.2 = 0 ∨ a + 1 < st.2.2.2 then a + 1 else st.2.2.2) = b + 1
              rw [if_neg (by omega)]
              exact h1
            · intro x hx
              rcases hx with hx | hx
              · exact h4 x hx
              · subst hx
                exact ⟨by omega, fun _ => by omega⟩
end
section
/-! the component's tree: update, updateUp -/
section PX1
variable {xtx xst xos xrc xlm xtg xsp xft xfs xsm xfr xls xbc : Int32} {aw az ac ap al ar ao ah ab : Nat → Int32}
def px_fI (x y : Int32) : Int32 := if x &&& y = 0 then x ||| y else x &&& y
def px_w (o : Int32) (w : Nat → Int32) (s : Nat) : Int32 := if o < 0 then w s else if o = nI s then w s else 0
def px_uS (w z : Nat → Int32) (l r : Nat) : Nat → Int32
  | 0 => 0
  | s + 1 => if z (l * 8 + s) &&& z (r * 8 + s) = 0 then px_uS w z l r s + w s else px_uS w z l r s
theorem px_uSc {w z y : Nat → Int32} {l r : Nat} : ∀ m, (∀ s, s < m → y (l * 8 + s) = z (l * 8 + s)) → (∀ s, s < m → y (r * 8 + s) = z (r * 8 + s)) → px_uS w y l r m = px_uS w z l r m := by
  intro m
  induction m with
  | zero => intro _ _; rfl
  | succ s ih =>
    intro h1 h2
    unfold px_uS
    rw [h1 s (by omega), h2 s (by omega), ih (fun j hj => h1 j (by omega)) (fun j hj => h2 j (by omega))]
theorem px_n8 (a s : Nat) : nI a * 8 + nI s = nI (a * 8 + s) := by
  rw [show (8 : Int32) = nI 8 from rfl, pk_mul, nI_add]
theorem px_wa {post : Int32 → Prop} {s : Nat} (hs : s < 8) (h : post (px_w xos aw s)) : wpX_weightAt post (xtx, xst, xos, xrc, xlm, xtg, xsp, xft, xfs, xsm, xfr, xls, xbc, aw, az, ac, ap, al, ar, ao, ah, ab) (nI s) := by
  have e : (nI s).toNatClampNeg = s := nI_clamp (by omega)
  have hi : vp_in (nI s) 8 := vp_in_nI hs (by decide)
  unfold px_w at h
  by_cases h1 : xos < 0
  · rw [if_pos h1] at h
    exact br_t h1 (And.intro hi (by rw [e]; exact h))
  · rw [if_neg h1] at h
    by_cases h2 : xos = nI s
    · rw [if_pos h2] at h
      exact br_f h1 (br_t h2 (And.intro hi (by rw [e]; exact h)))
    · rw [if_neg h2] at h
      exact br_f h1 (br_f h2 h)
theorem px_up4 {post : SX → Prop} {v l r m : Nat} (hm : xst = nI m) (hm8 : m ≤ 8) (hv : v < 10) (hl : al v = nI l) (hr : ar v = nI r) (l10 : l < 10) (r10 : r < 10) (hlv : l ≠ v) (hrv : r ≠ v) (z0 : Nat → Int32)
    (K : ∀ z : Nat → Int32, (∀ i, ¬ (v * 8 ≤ i ∧ i < v * 8 + m) → z i = z0 i) → (∀ s, s < m → z (v * 8 + s) = px_fI (z0 (l * 8 + s)) (z0 (r * 8 + s))) →
      post (xtx, xst, xos, xrc, xlm, xtg, xsp, xft, xfs, xsm, xfr, xls, xbc, aw, z, upd ac v (px_uS (px_w xos aw) z0 l r m), ap, al, ar, ao, ah, ab)) :
    ∀ d s (z : Nat → Int32), s + d = m → (∀ i, ¬ (v * 8 ≤ i ∧ i < v * 8 + s) → z i = z0 i) → (∀ j, j < s → z (v * 8 + j) = px_fI (z0 (l * 8 + j)) (z0 (r * 8 + j))) →
      wX_update_4 post (nI v) xtx xst xos xrc xlm xtg xsp xft xfs xsm xfr xls xbc (d + 1) (px_uS (px_w xos aw) z0 l r s) (nI s) aw z ac ap al ar ao ah ab := by
  have ev : (nI v).toNatClampNeg = v := nI_clamp (by omega)
  have iv : vp_in (nI v) 10 := vp_in_nI hv (by decide)
  intro d
  induction d with
  | zero =>
    intro s z e h1 h2
    have es : s = m := by omega
    subst es
    refine br_t (by rw [hm]; exact nI_le (Nat.le_refl _) (by omega)) (And.intro iv (nm_r (e' := upd ac v (px_uS (px_w xos aw) z0 l r s)) (by rw [ev]) (K z h1 h2)))
  | succ d ih =>
    intro s z e h1 h2
    have eL : (al (nI v).toNatClampNeg) * 8 + nI s = nI (l * 8 + s) := by rw [ev, hl]; exact px_n8 l s
    have eR : (ar (nI v).toNatClampNeg) * 8 + nI s = nI (r * 8 + s) := by rw [ev, hr]; exact px_n8 r s
    have eV : (nI v) * 8 + nI s = nI (v * 8 + s) := px_n8 v s
    have zl : z (l * 8 + s) = z0 (l * 8 + s) := h1 _ (by omega)
    have zr : z (r * 8 + s) = z0 (r * 8 + s) := h1 _ (by omega)
    have step : ∀ x2 y : Int32, x2 = px_uS (px_w xos aw) z0 l r (s + 1) → y = px_fI (z0 (l * 8 + s)) (z0 (r * 8 + s)) →
        wX_update_75 post (wX_update_4 post (nI v) xtx xst xos xrc xlm xtg xsp xft xfs xsm xfr xls xbc (d + 1)) (nI v) x2 (nI s) y xtx xst xos xrc xlm xtg xsp xft xfs xsm xfr xls xbc aw z ac ap al ar ao ah ab := by
      intro x2 y e2 ey
      refine And.intro (pk_in (v * 8 + s) 80 (by omega) eV) (nm_r (e' := upd z (v * 8 + s) y) (by rw [pk_cl (v * 8 + s) eV]) (nm_r (nI_1 s) ?_))
      rw [e2]
      refine ih (s + 1) _ (by omega) ?_ ?_
      · intro i hi
        rw [pk_un (by omega)]
        exact h1 i (by omega)
      · intro j hj
        by_cases hjs : j = s
        · subst hjs
          rw [pk_us]
          exact ey
        · rw [pk_un (by omega)]
          exact h2 j (by omega)
    refine br_f (by rw [hm]; exact nI_ge (by omega) (by omega)) (And.intro iv (And.intro (pk_in (l * 8 + s) 80 (by omega) eL) (nm_r (e' := z0 (l * 8 + s)) (by rw [pk_cl (l * 8 + s) eL, zl])
      (And.intro iv (And.intro (pk_in (r * 8 + s) 80 (by omega) eR) (nm_r (e' := z0 (r * 8 + s)) (by rw [pk_cl (r * 8 + s) eR, zr]) (nm_e ?_)))))))
    by_cases hz : z0 (l * 8 + s) &&& z0 (r * 8 + s) = 0
    · refine br_t hz (px_wa (by omega) (nm_e (nm_e (step _ _ ?_ ?_))))
      · exact (if_pos hz).symm
      · exact (if_pos hz).symm
    · refine br_f hz (step _ _ ?_ ?_)
      · exact (if_neg hz).symm
      · exact (if_neg hz).symm
theorem px_upd {post : SX → Prop} {v l r m : Nat} (hm : xst = nI m) (hm8 : m ≤ 8) (hv : v < 10) (hl : al v = nI l) (hr : ar v = nI r) (l10 : l < 10) (r10 : r < 10) (hlv : l ≠ v) (hrv : r ≠ v)
    (K : ∀ z : Nat → Int32, (∀ i, ¬ (v * 8 ≤ i ∧ i < v * 8 + m) → z i = az i) → (∀ s, s < m → z (v * 8 + s) = px_fI (az (l * 8 + s)) (az (r * 8 + s))) →
      post (xtx, xst, xos, xrc, xlm, xtg, xsp, xft, xfs, xsm, xfr, xls, xbc, aw, z, upd ac v (px_uS (px_w xos aw) az l r m), ap, al, ar, ao, ah, ab)) : wpX_update post (xtx, xst, xos, xrc, xlm, xtg, xsp, xft, xfs, xsm, xfr, xls, xbc, aw, az, ac, ap, al, ar, ao, ah, ab) (nI v) :=
  Exists.intro (m + 1) (px_up4 hm hm8 hv hl hr l10 r10 hlv hrv az K m 0 az (by omega) (fun _ _ => rfl) (fun j hj => absurd hj (by omega)))
/-- the Fitch condition at a node -/
def px_LC (w : Nat → Int32) (m : Nat) (z co : Nat → Int32) (l r v : Nat) : Prop :=
  (∀ s, s < m → z (v * 8 + s) = px_fI (z (l * 8 + s)) (z (r * 8 + s))) ∧ co v = px_uS w z l r m
theorem px_LCc {w z co y ko : Nat → Int32} {m l r v : Nat} (h : px_LC w m z co l r v) (h1 : ∀ s, s < m → y (v * 8 + s) = z (v * 8 + s)) (h2 : ∀ s, s < m → y (l * 8 + s) = z (l * 8 + s))
    (h3 : ∀ s, s < m → y (r * 8 + s) = z (r * 8 + s)) (h4 : ko v = co v) : px_LC w m y ko l r v := by
  refine ⟨fun s hs => ?_, ?_⟩
  · rw [h1 s hs, h2 s hs, h3 s hs]; exact h.1 s hs
  · rw [h4, px_uSc m h2 h3]; exact h.2
/-- the arrays agree with the tree of t taxa and code c -/
def px_TA (t c : Nat) (rc : Int32) (p l r o : Nat → Int32) : Prop :=
  rc = nI (pp_Rc t c) ∧ (∀ v, pp_nd t v → p v = nI (pp_P t c v)) ∧ (∀ v, 6 ≤ v → v < t + 4 → l v = nI (pp_L t c v) ∧ r v = nI (pp_R t c v)) ∧ (∀ e, e < 2 * t - 3 → o e = nI (pp_Lo t c e))
theorem px_uu4 {post : SX → Prop} {t c m : Nat} (k : pp_ok t c) (hm : xst = nI m) (hm8 : m ≤ 8) (T : px_TA t c xrc ap al ar ao) (z0 co0 : Nat → Int32)
    (K : ∀ z co : Nat → Int32, (∀ i, i < 48 → z i = z0 i) → (∀ v, t + 4 ≤ v → co v = co0 v) → (∀ v, 6 ≤ v → v < t + 4 → px_LC (px_w xos aw) m z co (pp_L t c v) (pp_R t c v) v) → post (xtx, xst, xos, xrc, xlm, xtg, xsp, xft, xfs, xsm, xfr, xls, xbc, aw, z, co, ap, al, ar, ao, ah, ab)) :
    ∀ d i x (z co : Nat → Int32), (x = 0 ∨ (6 ≤ x ∧ x < t + 4)) → pp_D t c x ≤ d → i + d ≤ 9 → (∀ i, i < 48 → z i = z0 i) → (∀ v, t + 4 ≤ v → co v = co0 v) →
      (∀ v, 6 ≤ v → v < t + 4 → px_LC (px_w xos aw) m z co (pp_L t c v) (pp_R t c v) v ∨ (x ≠ 0 ∧ (v = x ∨ v = pp_P t c x))) →
      wX_updateUp_4 post (d + 1) (nI x) (nI i) xtx xst xos xrc xlm xtg xsp xft xfs xsm xfr xls xbc aw z co ap al ar ao ah ab := by
  have fin : ∀ d i (z co : Nat → Int32), i + d ≤ 9 → (∀ i, i < 48 → z i = z0 i) → (∀ v, t + 4 ≤ v → co v = co0 v) →
      (∀ v, 6 ≤ v → v < t + 4 → px_LC (px_w xos aw) m z co (pp_L t c v) (pp_R t c v) v ∨ ((0 : Nat) ≠ 0 ∧ (v = 0 ∨ v = pp_P t c 0))) →
      wX_updateUp_4 post (d + 1) (nI 0) (nI i) xtx xst xos xrc xlm xtg xsp xft xfs xsm xfr xls xbc aw z co ap al ar ao ah ab := by
    intro d i z co hi h1 h2 h3
    refine br_f (nI_ge (b := 10) (by omega) (by decide)) (br_t rfl (K z co h1 h2 ?_))
    intro v h6 hv
    rcases h3 v h6 hv with h | h
    · exact h
    · exact absurd rfl h.1
  intro d
  induction d with
  | zero =>
    intro i x z co hx hd hi h1 h2 h3
    rcases hx with rfl | hx
    · exact fin 0 i z co hi h1 h2 h3
    · have := (pp_no2 k (Or.inr hx)).1
      omega
  | succ d ih =>
    intro i x z co hx hd hi h1 h2 h3
    rcases hx with rfl | hx
    · exact fin (d + 1) i z co hi h1 h2 h3
    · have f := pp_in k hx.1 hx.2
      have f2 := pp_in2 k hx.1 hx.2
      have g := pp_no k (Or.inr hx)
      have g2 := pp_no2 k (Or.inr hx)
      have C := T.2.2.1 x hx.1 hx.2
      have hx10 : x < 10 := by omega
      refine br_f (nI_ge (b := 10) (by omega) (by decide)) (br_f (nI_ne0 (by omega) (by omega)) ?_)
      refine px_upd hm hm8 hx10 C.1 C.2 (pp_l10 ..) (pp_r10 ..) f.2.2.2.1 f.2.2.2.2 ?_
      intro y hy1 hy2
      refine And.intro (vp_in_nI hx10 (by decide)) (nm_r (e' := nI (pp_P t c x)) (by rw [nI_clamp (by omega)]; exact T.2.1 x (Or.inr hx)) (nm_r (nI_1 i) ?_))
      have off : ∀ v, v ≠ x → ∀ s, s < m → y (v * 8 + s) = z (v * 8 + s) := fun v hv s hs => hy1 _ (by omega)
      refine ih (i + 1) (pp_P t c x) y _ g.1 (by omega) (by omega) ?_ ?_ ?_
      · intro j hj
        rw [hy1 j (by omega)]
        exact h1 j hj
      · intro v hv
        rw [pk_un (by omega)]
        exact h2 v hv
      · intro v h6 hv
        by_cases hvx : v = x
        · subst hvx
          refine Or.inl ⟨fun s hs => ?_, ?_⟩
          · rw [hy2 s hs, off _ f.2.2.2.1 s hs, off _ f.2.2.2.2 s hs]
          · rw [pk_us]
            exact (px_uSc m (off _ f.2.2.2.1) (off _ f.2.2.2.2)).symm
        · by_cases hvp : v = pp_P t c x
          · exact Or.inr ⟨by omega, Or.inl hvp⟩
          · rcases h3 v h6 hv with h | h
            · have q2 := pp_in2 k h6 hv
              refine Or.inl (px_LCc h (off v hvx) (off _ ?_) (off _ ?_) (pk_un hvx))
              · intro e; exact hvp (by rw [← e]; exact q2.1.symm)
              · intro e; exact hvp (by rw [← e]; exact q2.2.1.symm)
            · omega
theorem px_uu {post : SX → Prop} {t c m x : Nat} (k : pp_ok t c) (hm : xst = nI m) (hm8 : m ≤ 8) (T : px_TA t c xrc ap al ar ao)
    (hx : x = 0 ∨ (6 ≤ x ∧ x < t + 4))
    (h3 : ∀ v, 6 ≤ v → v < t + 4 → px_LC (px_w xos aw) m az ac (pp_L t c v) (pp_R t c v) v ∨ (x ≠ 0 ∧ (v = x ∨ v = pp_P t c x)))
    (K : ∀ z co : Nat → Int32, (∀ i, i < 48 → z i = az i) → (∀ v, t + 4 ≤ v → co v = ac v) → (∀ v, 6 ≤ v → v < t + 4 → px_LC (px_w xos aw) m z co (pp_L t c v) (pp_R t c v) v) → post (xtx, xst, xos, xrc, xlm, xtg, xsp, xft, xfs, xsm, xfr, xls, xbc, aw, z, co, ap, al, ar, ao, ah, ab)) :
    wpX_updateUp post (xtx, xst, xos, xrc, xlm, xtg, xsp, xft, xfs, xsm, xfr, xls, xbc, aw, az, ac, ap, al, ar, ao, ah, ab) (nI x) := by
  have hd : pp_D t c x ≤ 9 := by
    rcases hx with rfl | hx
    · rw [(pp_rt k).2.2.2]; omega
    · have := (pp_no2 k (Or.inr hx)).2.1
      omega
  exact Exists.intro 10 (px_uu4 k hm hm8 T az ac K 9 0 x az ac hx hd (by omega) (fun _ _ => rfl) (fun _ _ => rfl) h3)
end PX1
end
section
/-! hang, insert, undo, startTree -/
section PX2
variable {xtx xst xos xrc xlm xtg xsp xft xfs xsm xfr xls xbc : Int32} {aw az ac ap al ar ao ah ab : Nat → Int32}
/-- a set-up tree: arrays, sets, costs -/
def px_TS (t c m : Nat) (w : Nat → Int32) (S : Nat → Nat) (rc : Int32) (z co p l r o : Nat → Int32) : Prop :=
  px_TA t c rc p l r o ∧ (∀ v, 6 ≤ v → v < t + 4 → px_LC w m z co (pp_L t c v) (pp_R t c v) v) ∧ (∀ i, i < 48 → z i = nI (S i)) ∧ (∀ v, t + 4 ≤ v → v < 10 → co v = 0)
theorem px_hang {post : SX → Prop} {nd old up : Nat} (hn : nd < 10) (hu : up < 10)
    (K : post (xtx, xst, xos, (if up = 0 then nI nd else xrc), xlm, xtg, xsp, xft, xfs, xsm, xfr, xls, xbc, aw, az, ac, upd ap nd (nI up), (if up ≠ 0 ∧ al up = nI old then upd al up (nI nd) else al), (if up ≠ 0 ∧ ¬ al up = nI old then upd ar up (nI nd) else ar), ao, ah, ab)) :
    wpX_hang post (xtx, xst, xos, xrc, xlm, xtg, xsp, xft, xfs, xsm, xfr, xls, xbc, aw, az, ac, ap, al, ar, ao, ah, ab) (nI nd) (nI old) (nI up) := by
  have en : (nI nd).toNatClampNeg = nd := nI_clamp (by omega)
  have eu : (nI up).toNatClampNeg = up := nI_clamp (by omega)
  have iu : vp_in (nI up) 10 := vp_in_nI hu (by decide)
  refine And.intro (vp_in_nI hn (by decide)) (nm_r (e' := upd ap nd (nI up)) (by rw [en]) ?_)
  by_cases h0 : up = 0
  · subst h0
    rw [if_pos rfl, if_neg (fun z => z.1 rfl), if_neg (fun z => z.1 rfl)] at K
    exact br_t rfl K
  · rw [if_neg h0] at K
    refine br_f (nI_ne0 (by omega) (by omega)) (And.intro iu ?_)
    by_cases h1 : al up = nI old
    · rw [if_pos ⟨h0, h1⟩, if_neg (fun z => z.2 h1)] at K
      exact br_t (by rw [eu]; exact h1) (And.intro iu (nm_r (e' := upd al up (nI nd)) (by rw [eu]) K))
    · rw [if_neg (fun z => h1 z.2), if_pos ⟨h0, h1⟩] at K
      exact br_f (by rw [eu]; exact h1) (And.intro iu (nm_r (e' := upd ar up (nI nd)) (by rw [eu]) K))
theorem px_e23 {t : Nat} (h : 3 ≤ t) : 2 * nI t - 3 = nI (2 * t - 3) := by
  rw [show (2 : Int32) = nI 2 from rfl, pk_mul, show (3 : Int32) = nI 3 from rfl, pk_sub (by omega)]
theorem px_e22 {t : Nat} (h : 3 ≤ t) : 2 * nI t - 2 = nI (2 * t - 2) := by
  rw [show (2 : Int32) = nI 2 from rfl, pk_mul, pk_sub (by omega)]
theorem px_e24 {t : Nat} (h : 3 ≤ t) : 2 * nI t - 4 = nI (2 * t - 4) := by
  rw [show (2 : Int32) = nI 2 from rfl, pk_mul, show (4 : Int32) = nI 4 from rfl, pk_sub (by omega)]
theorem px_inj {a b : Nat} (ha : a < 1000) (hb : b < 1000) (h : nI a = nI b) : a = b := (nI_eq (by omega) (by omega)).mp h
/-- the arrays behind an insertion -/
theorem px_insT {t c q : Nat} (k : pp_ok t c) (h5 : t ≤ 5) (hq : q < 2 * t - 3) (T : px_TA t c xrc ap al ar ao) :
    px_TA (t + 1) (c + pp_U t * q) (if pp_P t c (pp_Lo t c q) = 0 then nI (t + 4) else xrc)
      (upd (upd (upd ap (t + 4) (nI (pp_P t c (pp_Lo t c q)))) (pp_Lo t c q) (nI (t + 4))) t (nI (t + 4)))
      (upd (if pp_P t c (pp_Lo t c q) ≠ 0 ∧ al (pp_P t c (pp_Lo t c q)) = nI (pp_Lo t c q) then upd al (pp_P t c (pp_Lo t c q)) (nI (t + 4)) else al) (t + 4) (nI (pp_Lo t c q)))
      (upd (if pp_P t c (pp_Lo t c q) ≠ 0 ∧ ¬ al (pp_P t c (pp_Lo t c q)) = nI (pp_Lo t c q) then upd ar (pp_P t c (pp_Lo t c q)) (nI (t + 4)) else ar) (t + 4) (nI t))
      (upd (upd ao (2 * t - 3) (nI (t + 4))) (2 * t - 2) (nI t)) := by
  have I := pp_ins k h5 hq
  have hu := (pp_ed k hq).1
  have N := pp_no k hu
  obtain ⟨T1, T2, T3, T4⟩ := T
  refine ⟨?_, ?_, ?_, ?_⟩
  · rw [I.2.2.2.2.2.2.1]
    by_cases e : pp_P t c (pp_Lo t c q) = 0
    · rw [if_pos e, if_pos e]
    · rw [if_neg e, if_neg e]; exact T1
  · intro v hv
    by_cases e1 : v = t
    · rw [e1, pk_us, I.2.2.2.1]
    · rw [pk_un e1]
      by_cases e2 : v = pp_Lo t c q
      · rw [e2, pk_us, I.2.1]
      · rw [pk_un e2]
        by_cases e3 : v = t + 4
        · rw [e3, pk_us, I.2.2.1]
        · have hv' : pp_nd t v := by omega
          rw [pk_un e3, pp_insP k h5 hq hv' e2]
          exact T2 v hv'
  · intro v h6 hv
    by_cases e3 : v = t + 4
    · rw [e3, pk_us, pk_us, I.2.2.2.2.1, I.2.2.2.2.2.1]
      exact ⟨rfl, rfl⟩
    · rw [pk_un e3, pk_un e3]
      have hv' : v < t + 4 := by omega
      have C := pp_insC k h5 hq h6 hv'
      have f := pp_in k h6 hv'
      have f2 := pp_in2 k h6 hv'
      have g := T3 v h6 hv'
      rw [C.1, C.2]
      refine ⟨?_, ?_⟩
      · by_cases e : pp_L t c v = pp_Lo t c q
        · have ev : pp_P t c (pp_Lo t c q) = v := by rw [← e]; exact f2.1
          rw [if_pos e, ev, if_pos ⟨by omega, by rw [g.1, e]⟩, pk_us]
        · rw [if_neg e]
          by_cases w : pp_P t c (pp_Lo t c q) ≠ 0 ∧ al (pp_P t c (pp_Lo t c q)) = nI (pp_Lo t c q)
          · rw [if_pos w, pk_un, g.1]
            intro ev
            rw [← ev, g.1] at w
            exact e (px_inj (by omega) (by omega) w.2)
          · rw [if_neg w, g.1]
      · by_cases e : pp_R t c v = pp_Lo t c q
        · have ev : pp_P t c (pp_Lo t c q) = v := by rw [← e]; exact f2.2.1
          have ne : ¬ al v = nI (pp_Lo t c q) := by
            rw [g.1]
            intro z
            have := px_inj (by omega) (by omega) z
            omega
          rw [if_pos e, ev, if_pos ⟨by omega, ne⟩, pk_us]
        · rw [if_neg e]
          by_cases w : pp_P t c (pp_Lo t c q) ≠ 0 ∧ ¬ al (pp_P t c (pp_Lo t c q)) = nI (pp_Lo t c q)
          · rw [if_pos w, pk_un, g.2]
            intro ev
            have n2 := N.2.2 w.1
            rw [← ev] at n2
            rcases n2 with n2 | n2
            · apply w.2
              rw [← ev, g.1, n2]
            · exact e n2
          · rw [if_neg w, g.2]
  · intro e he
    by_cases e1 : e = 2 * t - 2
    · rw [e1, pk_us, I.2.2.2.2.2.2.2.2]
    · rw [pk_un e1]
      by_cases e2 : e = 2 * t - 3
      · rw [e2, pk_us, I.2.2.2.2.2.2.2.1]
      · rw [pk_un e2, pp_insE k h5 hq (by omega)]
        exact T4 e (by omega)
theorem px_ins {post : SX → Prop} {t c q m : Nat} {S : Nat → Nat} (k : pp_ok t c) (h5 : t ≤ 5) (hq : q < 2 * t - 3) (hm : xst = nI m) (hm8 : m ≤ 8) (T : px_TS t c m (px_w xos aw) S xrc az ac ap al ar ao)
    (K : ∀ (rc : Int32) (z co p l r o : Nat → Int32), px_TS (t + 1) (c + pp_U t * q) m (px_w xos aw) S rc z co p l r o → post (xtx, xst, xos, rc, xlm, xtg, xsp, xft, xfs, xsm, xfr, xls, xbc, aw, z, co, p, l, r, o, ah, ab)) :
    wpX_insert post (xtx, xst, xos, xrc, xlm, xtg, xsp, xft, xfs, xsm, xfr, xls, xbc, aw, az, ac, ap, al, ar, ao, ah, ab) (nI t) (nI q) := by
  have k' := pp_insk k h5 hq
  have I := pp_ins k h5 hq
  have hu := (pp_ed k hq).1
  have N := pp_no k hu
  obtain ⟨TA, TL, TZ, TC⟩ := T
  have TA' := px_insT k h5 hq TA
  have u10 : pp_Lo t c q < 10 := by omega
  have p10 := pp_p10 t c (pp_Lo t c q)
  refine And.intro (vp_in_nI (by omega) (by decide)) (nm_r (e' := nI (pp_Lo t c q)) (by rw [nI_clamp (by omega)]; exact TA.2.2.2 q hq) (nm_r (e' := nI (t + 4)) (nI_add t 4) (And.intro (vp_in_nI u10 (by decide)) ?_)))
  rw [show ap (nI (pp_Lo t c q)).toNatClampNeg = nI (pp_P t c (pp_Lo t c q)) from by rw [nI_clamp (by omega)]; exact TA.2.1 _ hu]
  refine px_hang (by omega) p10 ?_
  have iM : vp_in (nI (t + 4)) 10 := vp_in_nI (by omega) (by decide)
  have eM : (nI (t + 4)).toNatClampNeg = t + 4 := nI_clamp (by omega)
  refine And.intro iM (nm_r (by rw [eM]) (And.intro iM (nm_r (by rw [eM]) (And.intro (vp_in_nI u10 (by decide)) (nm_r (by rw [nI_clamp (by omega)]) (And.intro (vp_in_nI (by omega) (by decide))
    (nm_r (by rw [nI_clamp (by omega)]) (And.intro (pk_in (2 * t - 3) 9 (by omega) (px_e23 k.1)) (nm_r (by rw [pk_cl (2 * t - 3) (px_e23 k.1)]) (And.intro (pk_in (2 * t - 2) 9 (by omega) (px_e22 k.1)) (nm_r (by rw [pk_cl (2 * t - 2) (px_e22 k.1)]) ?_)))))))))))
  refine px_uu k' hm hm8 TA' (Or.inr (by omega)) ?_ ?_
  · intro v h6 hv
    by_cases e : v = t + 4
    · exact Or.inr ⟨by omega, Or.inl e⟩
    · have hv' : v < t + 4 := by omega
      by_cases e2 : v = pp_P t c (pp_Lo t c q)
      · exact Or.inr ⟨by omega, Or.inr (by rw [I.2.2.1]; exact e2)⟩
      · have C := pp_insC k h5 hq h6 hv'
        have f2 := pp_in2 k h6 hv'
        rw [if_neg (by intro z; exact e2 (by rw [← z]; exact f2.1.symm)), if_neg (by intro z; exact e2 (by rw [← z]; exact f2.2.1.symm))] at C
        rw [C.1, C.2]
        exact Or.inl (TL v h6 hv')
  · intro z co hz hc hl
    refine K _ z co _ _ _ _ ⟨TA', hl, fun i hi => by rw [hz i hi]; exact TZ i hi, fun v h1 h2 => by rw [hc v h1]; exact TC v (by omega) h2⟩
/-- the arrays behind an undoing -/
theorem px_undT {t c q : Nat} (k : pp_ok t c) (h5 : t ≤ 5) (hq : q < 2 * t - 3) (T : px_TA (t + 1) (c + pp_U t * q) xrc ap al ar ao) :
    px_TA t c (if pp_P t c (pp_Lo t c q) = 0 then nI (pp_Lo t c q) else xrc)
      (upd ap (pp_Lo t c q) (nI (pp_P t c (pp_Lo t c q))))
      (if pp_P t c (pp_Lo t c q) ≠ 0 ∧ al (pp_P t c (pp_Lo t c q)) = nI (t + 4) then upd al (pp_P t c (pp_Lo t c q)) (nI (pp_Lo t c q)) else al)
      (if pp_P t c (pp_Lo t c q) ≠ 0 ∧ ¬ al (pp_P t c (pp_Lo t c q)) = nI (t + 4) then upd ar (pp_P t c (pp_Lo t c q)) (nI (pp_Lo t c q)) else ar)
      ao := by
  have I := pp_ins k h5 hq
  have hu := (pp_ed k hq).1
  have N := pp_no k hu
  obtain ⟨T1, T2, T3, T4⟩ := T
  refine ⟨?_, ?_, ?_, ?_⟩
  · by_cases e : pp_P t c (pp_Lo t c q) = 0
    · rw [if_pos e]; exact congrArg nI (N.2.1 e)
    · rw [if_neg e, T1, I.2.2.2.2.2.2.1, if_neg e]
  · intro v hv
    by_cases e2 : v = pp_Lo t c q
    · rw [e2, pk_us]
    · rw [pk_un e2, T2 v (by omega), pp_insP k h5 hq hv e2]
  · intro v h6 hv
    have C := pp_insC k h5 hq h6 hv
    have f := pp_in k h6 hv
    have f2 := pp_in2 k h6 hv
    have g := T3 v h6 (by omega)
    rw [C.1, C.2] at g
    refine ⟨?_, ?_⟩
    · by_cases e : pp_L t c v = pp_Lo t c q
      · have ev : pp_P t c (pp_Lo t c q) = v := by rw [← e]; exact f2.1
        rw [if_pos e] at g
        rw [ev, if_pos ⟨by omega, g.1⟩, pk_us, e]
      · rw [if_neg e] at g
        by_cases w : pp_P t c (pp_Lo t c q) ≠ 0 ∧ al (pp_P t c (pp_Lo t c q)) = nI (t + 4)
        · rw [if_pos w, pk_un, g.1]
          intro ev
          rw [← ev, g.1] at w
          have := px_inj (by omega) (by omega) w.2
          omega
        · rw [if_neg w, g.1]
    · by_cases e : pp_R t c v = pp_Lo t c q
      · have ev : pp_P t c (pp_Lo t c q) = v := by rw [← e]; exact f2.2.1
        rw [if_neg (by omega)] at g
        have ne : ¬ al v = nI (t + 4) := by
          rw [g.1]
          intro z
          have := px_inj (by omega) (by omega) z
          omega
        rw [ev, if_pos ⟨by omega, ne⟩, pk_us, e]
      · by_cases w : pp_P t c (pp_Lo t c q) ≠ 0 ∧ ¬ al (pp_P t c (pp_Lo t c q)) = nI (t + 4)
        · rw [if_pos w, pk_un, g.2, if_neg e]
          intro ev
          have n2 := N.2.2 w.1
          rw [← ev] at n2
          rcases n2 with n2 | n2
          · apply w.2
            rw [← ev, g.1, if_pos n2]
          · exact e n2
        · rw [if_neg w, g.2, if_neg e]
  · intro e he
    rw [T4 e (by omega), pp_insE k h5 hq he]
theorem px_und {post : SX → Prop} {t c q m : Nat} {S : Nat → Nat} (k : pp_ok t c) (h5 : t ≤ 5) (hq : q < 2 * t - 3) (hm : xst = nI m) (hm8 : m ≤ 8)
    (T : px_TS (t + 1) (c + pp_U t * q) m (px_w xos aw) S xrc az ac ap al ar ao)
    (K : ∀ (rc : Int32) (z co p l r o : Nat → Int32), px_TS t c m (px_w xos aw) S rc z co p l r o → post (xtx, xst, xos, rc, xlm, xtg, xsp, xft, xfs, xsm, xfr, xls, xbc, aw, z, co, p, l, r, o, ah, ab)) :
    wpX_undo post (xtx, xst, xos, xrc, xlm, xtg, xsp, xft, xfs, xsm, xfr, xls, xbc, aw, az, ac, ap, al, ar, ao, ah, ab) (nI t) := by
  have k' := pp_insk k h5 hq
  have I := pp_ins k h5 hq
  have hu := (pp_ed k hq).1
  have N := pp_no k hu
  obtain ⟨TA, TL, TZ, TC⟩ := T
  have TA' := px_undT k h5 hq TA
  have u10 : pp_Lo t c q < 10 := by omega
  have p10 := pp_p10 t c (pp_Lo t c q)
  have iM : vp_in (nI (t + 4)) 10 := vp_in_nI (by omega) (by decide)
  have eM : (nI (t + 4)).toNatClampNeg = t + 4 := nI_clamp (by omega)
  have g := TA.2.2.1 (t + 4) (by omega) (by omega)
  refine nm_r (e' := nI (t + 4)) (nI_add t 4) (And.intro iM (nm_r (e' := nI (pp_Lo t c q)) (by rw [eM, g.1, I.2.2.2.2.1]) (And.intro iM (nm_r (e' := nI (pp_P t c (pp_Lo t c q))) (by rw [eM, TA.2.1 (t + 4) (by omega), I.2.2.1]) ?_))))
  refine px_hang u10 p10 ?_
  refine And.intro iM (nm_r (by rw [eM]) ?_)
  refine px_uu k hm hm8 TA' N.1 ?_ ?_
  · intro v h6 hv
    by_cases e2 : v = pp_P t c (pp_Lo t c q)
    · exact Or.inr ⟨by omega, Or.inl e2⟩
    · have C := pp_insC k h5 hq h6 hv
      have f2 := pp_in2 k h6 hv
      rw [if_neg (by intro z; exact e2 (by rw [← z]; exact f2.1.symm)), if_neg (by intro z; exact e2 (by rw [← z]; exact f2.2.1.symm))] at C
      have h := TL v h6 (by omega)
      rw [C.1, C.2] at h
      exact Or.inl (px_LCc h (fun _ _ => rfl) (fun _ _ => rfl) (fun _ _ => rfl) (pk_un (by omega)))
  · intro z co hz hc hl
    refine K _ z co _ _ _ _ ⟨TA', hl, fun i hi => by rw [hz i hi]; exact TZ i hi, fun v h1 h2 => ?_⟩
    rw [hc v h1]
    by_cases e : v = t + 4
    · rw [e, pk_us]
    · rw [pk_un e]; exact TC v (by omega) h2
theorem px_T3 : px_TA 3 0 6 (upd (upd (upd ap 6 0) 1 6) 2 6) (upd al 6 1) (upd ar 6 2) (upd (upd (upd ao 0 6) 1 1) 2 2) := by
  have I := pp_t3
  refine ⟨?_, ?_, ?_, ?_⟩
  · rw [I.1]; rfl
  · intro v hv
    rcases (by omega : v = 1 ∨ v = 2 ∨ v = 6) with rfl | rfl | rfl
    · rw [I.2.2.1]; rfl
    · rw [I.2.2.2.1]; rfl
    · rw [I.2.1]; rfl
  · intro v h6 hv
    have e : v = 6 := by omega
    subst e
    rw [I.2.2.2.2.1, I.2.2.2.2.2.1]
    exact ⟨rfl, rfl⟩
  · intro e he
    rcases (by omega : e = 0 ∨ e = 1 ∨ e = 2) with rfl | rfl | rfl
    · rw [I.2.2.2.2.2.2.1]; rfl
    · rw [I.2.2.2.2.2.2.2.1]; rfl
    · rw [I.2.2.2.2.2.2.2.2]; rfl
theorem px_st71 {post : SX → Prop} {m : Nat} (K : ∀ co : Nat → Int32, (∀ v, 6 ≤ v → v < 10 → co v = 0) → wpX_update post (xtx, xst, xos, xrc, xlm, xtg, xsp, xft, xfs, xsm, xfr, xls, xbc, aw, az, co, ap, al, ar, ao, ah, ab) 6) :
    ∀ d i (co : Nat → Int32), 6 ≤ i → i + d = 10 → (∀ v, 6 ≤ v → v < i → co v = 0) → wX_startTree_71 post xtx xst xos xrc xlm xtg xsp xft xfs xsm xfr xls xbc (d + 1) (nI i) aw az co ap al ar ao ah ab := by
  intro d
  induction d with
  | zero =>
    intro i co h6 hi hc
    have e : i = 10 := by omega
    subst e
    exact br_t (nI_le (a := 10) (b := 10) (Nat.le_refl _) (by decide)) (K co hc)
  | succ d ih =>
    intro i co h6 hi hc
    refine br_f (nI_ge (b := 10) (by omega) (by decide)) (And.intro (vp_in_nI (by omega) (by decide)) (nm_r (e' := upd co i 0) (by rw [nI_clamp (by omega)]) (nm_r (nI_1 i) (ih (i + 1) _ (by omega) (by omega) ?_))))
    intro v h1 h2
    by_cases e : v = i
    · rw [e, pk_us]
    · rw [pk_un e]; exact hc v h1 (by omega)
theorem px_start {post : SX → Prop} {m : Nat} {S : Nat → Nat} (hm : xst = nI m) (hm8 : m ≤ 8) (hz : ∀ i, i < 48 → az i = nI (S i))
    (K : ∀ (rc : Int32) (z co p l r o : Nat → Int32), px_TS 3 0 m (px_w xos aw) S rc z co p l r o → post (xtx, xst, xos, rc, xlm, xtg, xsp, xft, xfs, xsm, xfr, xls, xbc, aw, z, co, p, l, r, o, ah, ab)) :
    wpX_startTree post (xtx, xst, xos, xrc, xlm, xtg, xsp, xft, xfs, xsm, xfr, xls, xbc, aw, az, ac, ap, al, ar, ao, ah, ab) := by
  refine nm_e (nm_e (nm_e (nm_e (nm_e (nm_e (nm_e (nm_e (Exists.intro 5 ?_))))))))
  refine px_st71 (m := m) ?_ 4 6 _ (by omega) (by omega) (fun v h1 h2 => absurd h2 (by omega))
  intro co hc
  have T := px_T3 (ap := ap) (al := al) (ar := ar) (ao := ao)
  have I := pp_t3
  refine px_upd (v := 6) (l := 1) (r := 2) hm hm8 (by omega) rfl rfl (by omega) (by omega) (by omega) (by omega) ?_
  intro z h1 h2
  refine K _ z _ _ _ _ _ ⟨T, ?_, ?_, ?_⟩
  · intro v h6 hv
    have e : v = 6 := by omega
    subst e
    rw [I.2.2.2.2.1, I.2.2.2.2.2.1]
    have o1 : ∀ s, s < m → z (1 * 8 + s) = az (1 * 8 + s) := fun s hs => h1 _ (by omega)
    have o2 : ∀ s, s < m → z (2 * 8 + s) = az (2 * 8 + s) := fun s hs => h1 _ (by omega)
    refine ⟨fun s hs => ?_, ?_⟩
    · rw [h2 s hs, o1 s hs, o2 s hs]
    · rw [pk_us]
      exact (px_uSc m o1 o2).symm
  · intro i hi
    rw [h1 i (by omega)]
    exact hz i hi
  · intro v h7 h10
    rw [pk_un (by omega)]
    exact hc v (by omega) h10
end PX2
end
section
/-! rootCost, total: the score of the tree that is set up -/
section PX3
variable {xtx xst xos xrc xlm xtg xsp xft xfs xsm xfr xls xbc : Int32} {aw az ac ap al ar ao ah ab : Nat → Int32}
theorem px_or (a b : Nat) : nI a ||| nI b = nI (a ||| b) := by
  apply Int32.toBitVec_inj.1
  show BitVec.ofNat 32 a ||| BitVec.ofNat 32 b = BitVec.ofNat 32 (a ||| b)
  apply BitVec.eq_of_getLsbD_eq
  intro i hi
  simp [hi]
theorem px_and0 {a b : Nat} (ha : a < 16) : nI a &&& nI b = 0 ↔ a &&& b = 0 := by
  have h : a &&& b ≤ a := Nat.and_le_left
  rw [nx_and, ← nI_0, nI_eq (by omega) (by omega)]
theorem px_fIn {a b x y : Nat} (ha : a < 16) : px_fI (nI a) (nI b) = nI (pp_cmb (a, x) (b, y)).1 := by
  unfold px_fI pp_cmb
  by_cases h : a &&& b = 0
  · rw [if_pos ((px_and0 ha).mpr h), if_pos h, px_or]
  · rw [if_neg (fun z => h ((px_and0 ha).mp z)), if_neg h, nx_and]
theorem px_zv {t c m : Nat} {w : Nat → Int32} {S : Nat → Nat} {rc : Int32} {z co p l r o : Nat → Int32} (k : pp_ok t c) (hm8 : m ≤ 8) (hS : pp_SR S) (T : px_TS t c m w S rc z co p l r o) {s : Nat} (hs : s < m) :
    ∀ v, pp_nd t v → z (v * 8 + s) = nI (pp_fv t c (pp_sat S s) v).1 := by
  have rg := pp_fr k (pp_sats hS (by omega : s < 8))
  refine pp_ind k _ ?_ ?_
  · intro v h1 h2
    rw [pp_fvl (by omega)]
    exact T.2.2.1 _ (by omega)
  · intro v h6 hv hl hr
    have f := pp_in k h6 hv
    rw [(T.2.1 v h6 hv).1 s hs, hl, hr, pp_fvi k h6 hv]
    exact px_fIn (rg _ f.1).2
theorem px_uSv {W g : Nat → Nat} {w z : Nat → Int32} {l r : Nat} : ∀ m, (∀ s, s < m → w s = nI (W s)) → (∀ s, s < m → (z (l * 8 + s) &&& z (r * 8 + s) = 0 ↔ g s = 1)) → (∀ s, s < m → g s ≤ 1) →
    px_uS w z l r m = nI (pp_su W g m) := by
  intro m
  induction m with
  | zero => intro _ _ _; rfl
  | succ s ih =>
    intro h1 h2 h3
    have e := ih (fun j hj => h1 j (by omega)) (fun j hj => h2 j (by omega)) (fun j hj => h3 j (by omega))
    have h3 := h3 s (by omega)
    unfold px_uS pp_su
    by_cases h : z (l * 8 + s) &&& z (r * 8 + s) = 0
    · rw [if_pos h, e, h1 s (by omega), nI_add, (h2 s (by omega)).mp h, Nat.mul_one]
    · have g0 : g s = 0 := by
        have : ¬ g s = 1 := fun z => h ((h2 s (by omega)).mpr z)
        omega
      rw [if_neg h, e, g0, Nat.mul_zero, Nat.add_zero]
theorem px_rz {p : Nat × Nat} {z : Nat} : (p.1 &&& z = 0 ↔ pp_rz p z = 1) := by
  unfold pp_rz
  split
  · exact ⟨fun _ => rfl, fun _ => by assumption⟩
  · exact ⟨fun h => absurd h (by assumption), fun h => absurd h (by omega)⟩
theorem px_su0 {W g : Nat → Nat} (h : ∀ s, g s = 0) : ∀ m, pp_su W g m = 0 := by
  intro m
  induction m with
  | zero => rfl
  | succ s ih => unfold pp_su; rw [ih, h, Nat.mul_zero]
/-- the cost of a node -/
theorem px_cov {t c m : Nat} {w : Nat → Int32} {S W : Nat → Nat} {rc : Int32} {z co p l r o : Nat → Int32} (k : pp_ok t c) (hm8 : m ≤ 8) (hS : pp_SR S) (T : px_TS t c m w S rc z co p l r o) (hW : ∀ s, s < m → w s = nI (W s))
    {u : Nat} (h6 : 6 ≤ u) (hu : u < 10) : co u = nI (pp_su W (fun s => pp_cu t c (pp_sat S s) u) m) := by
  by_cases h : u < t + 4
  · have f := pp_in k h6 h
    rw [(T.2.1 u h6 h).2]
    refine px_uSv m hW ?_ (fun s _ => pp_cu1 ..)
    intro s hs
    have rg := pp_fr k (pp_sats hS (by omega : s < 8))
    rw [px_zv k hm8 hS T hs _ f.1, px_zv k hm8 hS T hs _ f.2.1, px_and0 (rg _ f.1).2]
    show _ ↔ pp_cu t c (pp_sat S s) u = 1
    unfold pp_cu pp_ch
    rw [if_pos h]
    exact px_rz
  · rw [T.2.2.2 u (by omega) hu, px_su0 (g := fun s => pp_cu t c (pp_sat S s) u) (fun s => if_neg h)]
    rfl
theorem px_rov {t c m : Nat} {w : Nat → Int32} {S W : Nat → Nat} {rc : Int32} {z co p l r o : Nat → Int32} (k : pp_ok t c) (hm8 : m ≤ 8) (hS : pp_SR S) (T : px_TS t c m w S rc z co p l r o) (hW : ∀ s, s < m → w s = nI (W s)) :
    px_uS w z (pp_Rc t c) 0 m = nI (pp_su W (fun s => pp_rz (pp_fv t c (pp_sat S s) (pp_Rc t c)) (S s)) m) := by
  have r := pp_rt k
  refine px_uSv m hW ?_ (fun s _ => pp_rz1 ..)
  intro s hs
  have rg := pp_fr k (pp_sats hS (by omega : s < 8))
  rw [px_zv k hm8 hS T hs _ (Or.inr r.1), T.2.2.1 (0 * 8 + s) (by omega), px_and0 (rg _ (Or.inr r.1)).2, Nat.zero_mul, Nat.zero_add]
  exact px_rz
theorem px_rc4 {post : Int32 → Prop} {rc m : Nat} (hm : xst = nI m) (hm8 : m ≤ 8) (hr : xrc = nI rc) (r10 : rc < 10) (h : post (px_uS (px_w xos aw) az rc 0 m)) :
    ∀ d s, s + d = m → wX_rootCost_4 post xtx xst xos xrc xlm xtg xsp xft xfs xsm xfr xls xbc aw az ac ap al ar ao ah ab (d + 1) (px_uS (px_w xos aw) az rc 0 s) (nI s) := by
  intro d
  induction d with
  | zero =>
    intro s e
    have es : s = m := by omega
    subst es
    exact br_t (by rw [hm]; exact nI_le (Nat.le_refl _) (by omega)) h
  | succ d ih =>
    intro s e
    have eR : xrc * 8 + nI s = nI (rc * 8 + s) := by rw [hr]; exact px_n8 rc s
    have c1 : (xrc * 8 + nI s).toNatClampNeg = rc * 8 + s := pk_cl (rc * 8 + s) eR
    have c2 : (nI s).toNatClampNeg = 0 * 8 + s := by rw [nI_clamp (by omega)]; omega
    refine br_f (by rw [hm]; exact nI_ge (by omega) (by omega)) (And.intro (pk_in (rc * 8 + s) 80 (by omega) eR) (And.intro (vp_in_nI (by omega) (by decide)) ?_))
    have k := ih (s + 1) (by omega)
    unfold px_uS at k
    by_cases hz : az (rc * 8 + s) &&& az (0 * 8 + s) = 0
    · rw [if_pos hz] at k
      exact br_t (by rw [c1, c2]; exact hz) (px_wa (by omega) (nm_e (nm_r (nI_1 s) k)))
    · rw [if_neg hz] at k
      exact br_f (by rw [c1, c2]; exact hz) (nm_r (nI_1 s) k)
theorem px_t8 {post : Int32 → Prop} {x : Int32} (h : post (x + ac 6 + ac 7 + ac 8 + ac 9)) : ∃ n, wX_total_8 post xtx xst xos xrc xlm xtg xsp xft xfs xsm xfr xls xbc aw az ac ap al ar ao ah ab n x 6 := by
  refine Exists.intro 5 ?_
  refine br_f (by decide) (And.intro (vp_in_iff.mpr (by decide)) (nm_e (nm_r (e' := nI 7) (by decide) ?_)))
  refine br_f (by decide) (And.intro (vp_in_iff.mpr (by decide)) (nm_e (nm_r (e' := nI 8) (by decide) ?_)))
  refine br_f (by decide) (And.intro (vp_in_iff.mpr (by decide)) (nm_e (nm_r (e' := nI 9) (by decide) ?_)))
  refine br_f (by decide) (And.intro (vp_in_iff.mpr (by decide)) (nm_e (nm_r (e' := nI 10) (by decide) ?_)))
  exact br_t (by decide) h
theorem px_tot {post : Int32 → Prop} {t c m : Nat} {S W : Nat → Nat} (k : pp_ok t c) (hm : xst = nI m) (hm8 : m ≤ 8) (hS : pp_SR S) (T : px_TS t c m (px_w xos aw) S xrc az ac ap al ar ao) (hW : ∀ s, s < m → px_w xos aw s = nI (W s))
    (h : post (nI (pp_sc t c S W m))) : wpX_total post (xtx, xst, xos, xrc, xlm, xtg, xsp, xft, xfs, xsm, xfr, xls, xbc, aw, az, ac, ap, al, ar, ao, ah, ab) := by
  have r := pp_rt k
  refine Exists.intro (m + 1) (px_rc4 (rc := pp_Rc t c) (m := m) hm hm8 T.1.1 (by omega) ?_ m 0 (by omega))
  refine px_t8 ?_
  rw [px_rov k hm8 hS T hW, px_cov k hm8 hS T hW (u := 6) (by omega) (by omega), px_cov k hm8 hS T hW (u := 7) (by omega) (by omega), px_cov k hm8 hS T hW (u := 8) (by omega) (by omega), px_cov k hm8 hS T hW (u := 9) (by omega) (by omega),
    nI_add, nI_add, nI_add, nI_add, ← pp_scs k]
  exact h
end PX3
end
section
/-! codeNow, markUp, hasSplit, visit -/
section PX4
variable {xtx xst xos xrc xlm xtg xsp xft xfs xsm xfr xls xbc : Int32} {aw az ac ap al ar ao ah ab : Nat → Int32}
def px_CH (t x : Nat) (h : Nat → Int32) : Prop := ∀ u, 3 ≤ u → u < t → h u = nI (pp_dg x u)
theorem px_cst {t x : Nat} (h3 : 3 ≤ t) (h5 : t ≤ 5) : x % pp_U t + pp_U t * pp_dg x t = x % pp_U (t + 1) ∧ pp_U t * (2 * t - 3) = pp_U (t + 1) := by
  unfold pp_dg
  rcases (by omega : t = 3 ∨ t = 4 ∨ t = 5) with rfl | rfl | rfl <;> refine ⟨?_, rfl⟩ <;> simp only [Nat.reduceAdd, Nat.reduceMul, Nat.reduceSub, pp_u3, pp_u4, pp_u5, pp_u6] <;> omega
theorem px_cn6 {post : Int32 → Prop} {n x : Nat} (hn : xtx = nI n) (h6 : n ≤ 6) (C : px_CH n x ah) (h : post (nI (x % pp_U n))) :
    ∀ d t, 3 ≤ t → t + d = n → wX_codeNow_6 post xtx xst xos xrc xlm xtg xsp xft xfs xsm xfr xls xbc aw az ac ap al ar ao ah ab (d + 1) (nI (x % pp_U t)) (nI (pp_U t)) (nI t) := by
  intro d
  induction d with
  | zero =>
    intro t h3 e
    have et : t = n := by omega
    subst et
    exact br_t (by rw [hn]; exact nI_le (Nat.le_refl _) (by omega)) h
  | succ d ih =>
    intro t h3 e
    have g := px_cst (t := t) (x := x) h3 (by omega)
    refine br_f (by rw [hn]; exact nI_ge (by omega) (by omega)) (And.intro (vp_in_nI (by omega) (by decide)) (nm_r (e' := nI (x % pp_U (t + 1))) ?_ (nm_r (e' := nI (pp_U (t + 1))) ?_ (nm_r (nI_1 t) (ih (t + 1) (by omega) (by omega))))))
    · rw [nI_clamp (by omega), C t h3 (by omega), pk_mul, nI_add, g.1]
    · rw [px_e23 h3, pk_mul, g.2]
theorem px_cn {post : Int32 → Prop} {n x : Nat} (k : pp_ok n x) (hn : xtx = nI n) (C : px_CH n x ah) (h : post (nI x)) : wpX_codeNow post (xtx, xst, xos, xrc, xlm, xtg, xsp, xft, xfs, xsm, xfr, xls, xbc, aw, az, ac, ap, al, ar, ao, ah, ab) := by
  have e : x % pp_U n = x := Nat.mod_eq_of_lt k.2.2
  have g := px_cn6 (post := post) (xst := xst) (xos := xos) (xrc := xrc) (xlm := xlm) (xtg := xtg) (xsp := xsp) (xft := xft) (xfs := xfs) (xsm := xsm) (xfr := xfr) (xls := xls) (xbc := xbc) (aw := aw) (az := az) (ac := ac) (ap := ap) (al := al) (ar := ar) (ao := ao) (ab := ab)
    hn k.2.1 C (by rw [e]; exact h) (n - 3) 3 (by omega) (by have := k.1; omega)
  rw [pp_u3, Nat.mod_one] at g
  exact Exists.intro _ g
/-! masks -/
def pp_on (t c : Nat) : Nat → Nat → Nat → Bool
  | 0, _, _ => false
  | d + 1, x, v => if x = 0 then false else (x == v || pp_on t c d (pp_P t c x) v)
def pp_bm (n c : Nat) : Nat → Nat → Nat
  | 0, _ => 0
  | t + 1, v => if pp_on n c 10 t v = true then pp_bm n c t v ||| 2 ^ t else pp_bm n c t v
theorem pp_bmb (n c : Nat) : ∀ t v, pp_bm n c t v < 2 ^ t := by
  intro t
  induction t with
  | zero => intro v; exact Nat.one_pos
  | succ t ih =>
    intro v
    have h : 2 ^ (t + 1) = 2 ^ t * 2 := Nat.pow_succ ..
    have p := Nat.two_pow_pos t
    have i := ih v
    unfold pp_bm
    split
    · exact Nat.or_lt_two_pow (by omega) (by omega)
    · omega
/-- the split sp lies on the edge above v -/
abbrev pp_mt (n c sp v : Nat) : Prop := pp_bm n c n v = sp ∨ pp_bm n c n v = 2 ^ n - 1 - sp
def pp_hs (n c sp : Nat) : Bool := (List.range 10).any (fun v => decide (pp_nd n v ∧ pp_mt n c sp v))
theorem pp_hsT {n c sp v : Nat} (h6 : n ≤ 6) (h : pp_nd n v) (hm : pp_mt n c sp v) : pp_hs n c sp = true := by
  unfold pp_hs
  rw [List.any_eq_true]
  exact ⟨v, List.mem_range.mpr (by omega), decide_eq_true ⟨h, hm⟩⟩
theorem pp_hsF {n c sp : Nat} (h : ∀ v, pp_nd n v → ¬ pp_mt n c sp v) : pp_hs n c sp = false := by
  unfold pp_hs
  rw [List.any_eq_false]
  intro v _ z
  have := of_decide_eq_true z
  exact h v this.1 this.2
theorem px_bit : ∀ t, t < 7 → (1 : Int32) <<< (nI t &&& 31) = nI (2 ^ t) := by decide +kernel
theorem px_mk4 {post : SX → Prop} {n c g : Nat} {B : Int32} (k : pp_ok n c) (hB : (1 : Int32) <<< (nI g &&& 31) = B) (T : px_TA n c xrc ap al ar ao) :
    ∀ d i x (b : Nat → Int32), (x = 0 ∨ pp_nd n x) → i + d = 10 → (∀ b' : Nat → Int32, (∀ v, v < 10 → b' v = if pp_on n c d x v = true then b v ||| B else b v) → post (xtx, xst, xos, xrc, xlm, xtg, xsp, xft, xfs, xsm, xfr, xls, xbc, aw, az, ac, ap, al, ar, ao, ah, b')) →
      wX_markUp_4 post (nI g) xtx xst xos xrc xlm xtg xsp xft xfs xsm xfr xls xbc (d + 1) (nI x) (nI i) aw az ac ap al ar ao ah b := by
  intro d
  induction d with
  | zero =>
    intro i x b hx hi K
    have e : i = 10 := by omega
    subst e
    exact br_t (nI_le (a := 10) (b := 10) (Nat.le_refl _) (by decide)) (K b (fun v hv => rfl))
  | succ d ih =>
    intro i x b hx hi K
    refine br_f (nI_ge (b := 10) (by omega) (by decide)) ?_
    rcases hx with rfl | hx
    · exact br_t rfl (K b (fun v hv => rfl))
    · have x10 : x < 10 := by have := k.2.1; omega
      have x0 : ¬ x = 0 := by omega
      have ix : vp_in (nI x) 10 := vp_in_nI x10 (by decide)
      have ex : (nI x).toNatClampNeg = x := nI_clamp (by omega)
      have N := pp_no k hx
      refine br_f (nI_ne0 (by omega) (by omega)) (And.intro ix (And.intro ix (nm_r (e' := upd b x (b x ||| B)) (by rw [ex, hB]) (And.intro ix (nm_r (e' := nI (pp_P n c x)) (by rw [ex]; exact T.2.1 x hx) (nm_r (nI_1 i) (ih (i + 1) (pp_P n c x) _ ?_ (by omega) ?_)))))))
      · rcases N.1 with h | h
        · exact Or.inl h
        · exact Or.inr (Or.inr h)
      · intro b' hb'
        refine K b' fun v hv => ?_
        have eo : pp_on n c (d + 1) x v = (x == v || pp_on n c d (pp_P n c x) v) := if_neg x0
        rw [hb' v hv, eo]
        by_cases e : v = x
        · subst e
          have e1 : (v == v) = true := beq_self_eq_true v
          rw [e1, Bool.true_or, if_pos rfl, pk_us]
          split
          · rw [Int32.or_assoc, Int32.or_self]
          · rfl
        · have e1 : (x == v) = false := beq_false_of_ne (fun z => e z.symm)
          rw [e1, Bool.false_or, pk_un e]
theorem px_hs82 {post : Int32 → SX → Prop} {n c sp : Nat} (k : pp_ok n c) (hn : xtx = nI n) (hsp : xsp = nI sp) (hs : sp ≤ 2 ^ n - 1) (hb : ∀ v, v < 10 → ab v = nI (pp_bm n c n v))
    (K : post (if pp_hs n c sp = true then 1 else 0) (xtx, xst, xos, xrc, xlm, xtg, xsp, xft, xfs, xsm, xfr, xls, xbc, aw, az, ac, ap, al, ar, ao, ah, ab)) :
    ∀ d i, 1 ≤ i → i + d = n + 4 → (∀ v, v < i → pp_nd n v → ¬ pp_mt n c sp v) → wX_hasSplit_53 post (nI (2 ^ n - 1)) xtx xst xos xrc xlm xtg xsp xft xfs xsm xfr xls xbc aw az ac ap al ar ao ah ab (d + 1) (nI i) := by
  have n6 := k.2.1
  have e4 : xtx + 4 = nI (n + 4) := by rw [hn]; exact nI_add n 4
  have h64 : 2 ^ n ≤ 2 ^ 6 := Nat.pow_le_pow_right (by omega) n6
  intro d
  induction d with
  | zero =>
    intro i h1 hi hF
    have e : i = n + 4 := by omega
    subst e
    rw [pp_hsF (fun v hv => hF v (by omega) hv)] at K
    exact br_t (by rw [e4]; exact nI_le (Nat.le_refl _) (by omega)) K
  | succ d ih =>
    intro i h1 hi hF
    have ii : vp_in (nI i) 10 := vp_in_nI (by omega) (by decide)
    have ei : (nI i).toNatClampNeg = i := nI_clamp (by omega)
    have i10 : i < 10 := by omega
    have bb := pp_bmb n c n i
    have go : (pp_nd n i → ¬ pp_mt n c sp i) → wX_hasSplit_53 post (nI (2 ^ n - 1)) xtx xst xos xrc xlm xtg xsp xft xfs xsm xfr xls xbc aw az ac ap al ar ao ah ab (d + 1) (nI (i + 1)) := by
      intro h
      refine ih (i + 1) (by omega) (by omega) fun v hv hd => ?_
      by_cases e : v = i
      · subst e; exact h hd
      · exact hF v (by omega) hd
    have yes : pp_nd n i → wX_hasSplit_77 post (wX_hasSplit_53 post (nI (2 ^ n - 1)) xtx xst xos xrc xlm xtg xsp xft xfs xsm xfr xls xbc aw az ac ap al ar ao ah ab (d + 1)) (nI (2 ^ n - 1)) (nI i) xtx xst xos xrc xlm xtg xsp xft xfs xsm xfr xls xbc aw az ac ap al ar ao ah ab := by
      intro hd
      refine br_f (by decide) (And.intro ii ?_)
      by_cases c1 : pp_bm n c n i = sp
      · rw [pp_hsT n6 hd (Or.inl c1)] at K
        exact br_t (by rw [ei, hb i i10, c1, hsp]) K
      · refine br_f (by rw [ei, hb i i10, hsp, nI_eq (by omega) (by omega)]; exact c1) (And.intro ii ?_)
        have es : nI (2 ^ n - 1) - xsp = nI (2 ^ n - 1 - sp) := by rw [hsp, pk_sub hs]
        by_cases c2 : pp_bm n c n i = 2 ^ n - 1 - sp
        · rw [pp_hsT n6 hd (Or.inr c2)] at K
          exact br_t (by rw [ei, hb i i10, es, c2]) K
        · refine br_f (by rw [ei, hb i i10, es, nI_eq (by omega) (by omega)]; exact c2) (nm_r (nI_1 i) (go ?_))
          intro _ z
          rcases z with z | z
          · exact c1 z
          · exact c2 z
    refine br_f (by rw [e4]; exact nI_ge (by omega) (by omega)) ?_
    by_cases c1 : i < n
    · exact br_t (by rw [hn]; exact nI_lt c1 (by omega)) (yes (Or.inl ⟨h1, c1⟩))
    · refine br_f (by rw [hn]; exact nI_nlt (by omega) (by omega)) ?_
      by_cases c2 : i < 6
      · exact br_t (nI_lt (b := 6) c2 (by decide)) (br_t rfl (nm_r (nI_1 i) (go (by intro h; omega))))
      · exact br_f (nI_nlt (b := 6) (by omega) (by omega)) (yes (Or.inr (by omega)))
theorem px_hs23 {post : Int32 → SX → Prop} {n c sp : Nat} (k : pp_ok n c) (hn : xtx = nI n) (hsp : xsp = nI sp) (hs : sp ≤ 2 ^ n - 1) (T : px_TA n c xrc ap al ar ao)
    (K : ∀ b : Nat → Int32, post (if pp_hs n c sp = true then 1 else 0) (xtx, xst, xos, xrc, xlm, xtg, xsp, xft, xfs, xsm, xfr, xls, xbc, aw, az, ac, ap, al, ar, ao, ah, b)) :
    ∀ d t (b : Nat → Int32), 1 ≤ t → t + d = n → (∀ v, v < 10 → b v = nI (pp_bm n c t v)) → wX_hasSplit_23 post (d + 1) (nI t) xtx xst xos xrc xlm xtg xsp xft xfs xsm xfr xls xbc aw az ac ap al ar ao ah b := by
  have n6 := k.2.1
  intro d
  induction d with
  | zero =>
    intro t b h1 hd hb
    have e : t = n := by omega
    subst e
    have eb : (1 : Int32) <<< (xtx &&& 31) - 1 = nI (2 ^ t - 1) := by
      rw [hn, px_bit t (by omega)]
      exact pk_sub (a := 2 ^ t) (b := 1) (Nat.two_pow_pos t)
    refine br_t (by rw [hn]; exact nI_le (Nat.le_refl _) (by omega)) (nm_r eb (Exists.intro (t + 4) ?_))
    exact px_hs82 (ab := b) k hn hsp hs hb (K b) (t + 3) 1 (by omega) (by omega) (fun v hv hd => by omega)
  | succ d ih =>
    intro t b h1 hd hb
    refine br_f (by rw [hn]; exact nI_ge (by omega) (by omega)) (Exists.intro 11 ?_)
    refine px_mk4 (g := t) k (px_bit t (by omega)) T 10 0 t b (Or.inr (Or.inl (by omega))) (by omega) ?_
    intro b' hb'
    refine nm_r (nI_1 t) (ih (t + 1) b' (by omega) (by omega) fun v hv => ?_)
    rw [hb' v hv, hb v hv, px_or]
    show _ = nI (if pp_on n c 10 t v = true then pp_bm n c t v ||| 2 ^ t else pp_bm n c t v)
    split <;> rfl
theorem px_hs {post : Int32 → SX → Prop} {n c sp : Nat} (k : pp_ok n c) (hn : xtx = nI n) (hsp : xsp = nI sp) (hs : sp ≤ 2 ^ n - 1) (T : px_TA n c xrc ap al ar ao)
    (K : ∀ b : Nat → Int32, post (if pp_hs n c sp = true then 1 else 0) (xtx, xst, xos, xrc, xlm, xtg, xsp, xft, xfs, xsm, xfr, xls, xbc, aw, az, ac, ap, al, ar, ao, ah, b)) : wpX_hasSplit post (xtx, xst, xos, xrc, xlm, xtg, xsp, xft, xfs, xsm, xfr, xls, xbc, aw, az, ac, ap, al, ar, ao, ah, ab) := by
  have aux : ∀ d i (b : Nat → Int32), i + d = 10 → (∀ v, v < i → b v = 0) → wX_hasSplit_2 post xtx xst xos xrc xlm xtg xsp xft xfs xsm xfr xls xbc (d + 1) (nI i) aw az ac ap al ar ao ah b := by
    intro d
    induction d with
    | zero =>
      intro i b hi hb
      have e : i = 10 := by omega
      subst e
      refine br_t (nI_le (a := 10) (b := 10) (Nat.le_refl _) (by decide)) (Exists.intro n ?_)
      have g := px_hs23 (post := post) k hn hsp hs T K (n - 1) 1 b (by omega) (by have := k.1; omega) (fun v hv => by rw [hb v hv]; rfl)
      rw [show n - 1 + 1 = n from by have := k.1; omega] at g
      exact g
    | succ d ih =>
      intro i b hi hb
      refine br_f (nI_ge (b := 10) (by omega) (by decide)) (And.intro (vp_in_nI (by omega) (by decide)) (nm_r (e' := upd b i 0) (by rw [nI_clamp (by omega)]) (nm_r (nI_1 i) (ih (i + 1) _ (by omega) fun v hv => ?_))))
      by_cases e : v = i
      · rw [e, pk_us]
      · rw [pk_un e]; exact hb v (by omega)
  exact Exists.intro 11 (aux 10 0 ab (by omega) (fun v hv => absurd hv (by omega)))
/-! visit -/
def px_sm : Nat → Int32
  | 0 => -1
  | b + 1 => nI b
def px_hb (n sp : Nat) (x : Nat) : Bool := decide (0 < sp) && pp_hs n x sp
theorem px_v65 {post : SX → Prop} {n x sp e : Nat} (k : pp_ok n x) (hn : xtx = nI n) (hsp : xsp = nI sp) (hs : sp ≤ 2 ^ n - 1) (T : px_TA n x xrc ap al ar ao) (hfs : xfs = nI e)
    (K : ∀ b : Nat → Int32, post (xtx, xst, xos, xrc, xlm, xtg, xsp, xft, nI (if px_hb n sp x = true then e + 1 else e), xsm, xfr, xls, xbc, aw, az, ac, ap, al, ar, ao, ah, b)) : wX_visit_65 post xtx xst xos xrc xlm xtg xsp xft xfs xsm xfr xls xbc aw az ac ap al ar ao ah ab := by
  have n6 := k.2.1
  have h64 : 2 ^ n ≤ 2 ^ 6 := Nat.pow_le_pow_right (by omega) n6
  by_cases h : sp = 0
  · have eb : px_hb n sp x = false := by unfold px_hb; rw [h]; rfl
    have K := K ab
    rw [eb, if_neg (by decide), ← hfs] at K
    exact br_t (by rw [hsp, h]; decide) K
  · have eb : px_hb n sp x = pp_hs n x sp := by unfold px_hb; rw [decide_eq_true (by omega), Bool.true_and]
    refine br_f (by rw [hsp]; exact nI_nle (by omega) (by omega)) (px_hs k hn hsp hs T fun b => ?_)
    have K := K b
    rw [eb] at K
    cases hb : pp_hs n x sp with
    | true =>
      rw [hb, if_pos rfl] at K
      rw [if_pos rfl]
      exact br_f (by decide) (nm_r (by rw [hfs]; exact nI_1 e) K)
    | false =>
      rw [hb, if_neg (by decide), ← hfs] at K
      rw [if_neg (by decide)]
      exact br_t rfl K
theorem px_v30 {post : SX → Prop} {n x sp : Nat} {st : pp_St} (k : pp_ok n x) (hn : xtx = nI n) (hsp : xsp = nI sp) (hs : sp ≤ 2 ^ n - 1) (T : px_TA n x xrc ap al ar ao) (C : px_CH n x ah)
    (hft : xft = nI st.2.1) (hfs : xfs = nI st.2.2.1) (hsm : xsm = px_sm st.2.2.2) (hb : st.2.2.2 ≤ 105)
    (K : ∀ b : Nat → Int32, post (xtx, xst, xos, xrc, xlm, xtg, xsp, nI (pp_v1 (px_hb n sp) st x).2.1, nI (pp_v1 (px_hb n sp) st x).2.2.1, px_sm (pp_v1 (px_hb n sp) st x).2.2.2, xfr, xls, xbc, aw, az, ac, ap, al, ar, ao, ah, b)) : wX_visit_30 post xtx xst xos xrc xlm xtg xsp xft xfs xsm xfr xls xbc aw az ac ap al ar ao ah ab := by
  have x105 : x < 105 := by
    obtain ⟨k1, k2, k3⟩ := k
    rcases (by omega : n = 3 ∨ n = 4 ∨ n = 5 ∨ n = 6) with rfl | rfl | rfl | rfl <;> simp only [Nat.reduceAdd, pp_u3, pp_u4, pp_u5, pp_u6] at k3 <;> omega
  refine nm_r (e' := nI (st.2.1 + 1)) (by rw [hft]; exact nI_1 _) (px_cn k hn C ?_)
  by_cases h : st.2.2.2 = 0 ∨ x + 1 < st.2.2.2
  · have e : (pp_v1 (px_hb n sp) st x).2.2.2 = x + 1 := if_pos h
    rw [e] at K
    by_cases h0 : st.2.2.2 = 0
    · rw [h0] at hsm
      exact br_t (by rw [hsm]; decide) (px_v65 k hn hsp hs T hfs K)
    · obtain ⟨b, eb⟩ : ∃ b, st.2.2.2 = b + 1 := ⟨st.2.2.2 - 1, by omega⟩
      rw [eb] at hsm
      have hsm : xsm = nI b := hsm
      exact br_f (by rw [hsm]; exact nI_pos (by omega)) (br_f (by rw [hsm]; exact nI_ge (by omega) (by omega)) (px_v65 k hn hsp hs T hfs K))
  · have e : (pp_v1 (px_hb n sp) st x).2.2.2 = st.2.2.2 := if_neg h
    rw [e, ← hsm] at K
    obtain ⟨b, eb⟩ : ∃ b, st.2.2.2 = b + 1 := ⟨st.2.2.2 - 1, by omega⟩
    rw [eb] at hsm
    have hsm : xsm = nI b := hsm
    exact br_f (by rw [hsm]; exact nI_pos (by omega)) (br_t (by rw [hsm]; exact nI_le (by omega) (by omega)) (px_v65 k hn hsp hs T hfs K))
theorem px_vis {post : SX → Prop} {n x sp : Nat} {tg : Bool} {sc : Nat → Nat} {st : pp_St} (k : pp_ok n x) (hn : xtx = nI n) (hsp : xsp = nI sp) (hs : sp ≤ 2 ^ n - 1) (T : px_TA n x xrc ap al ar ao) (C : px_CH n x ah)
    (htg : xtg = if tg = true then 1 else 0) (hlm : xlm = nI st.1) (hft : xft = nI st.2.1) (hfs : xfs = nI st.2.2.1) (hsm : xsm = px_sm st.2.2.2) (hb : st.2.2.2 ≤ 105) (hl : st.1 < 2 ^ 30) (hle : sc x ≤ st.1)
    (K : ∀ b : Nat → Int32, post (xtx, xst, xos, xrc, nI (pp_v sc tg (px_hb n sp) st x).1, xtg, xsp, nI (pp_v sc tg (px_hb n sp) st x).2.1, nI (pp_v sc tg (px_hb n sp) st x).2.2.1, px_sm (pp_v sc tg (px_hb n sp) st x).2.2.2, xfr, xls, xbc, aw, az, ac, ap, al, ar, ao, ah, b)) :
    wpX_visit post (xtx, xst, xos, xrc, xlm, xtg, xsp, xft, xfs, xsm, xfr, xls, xbc, aw, az, ac, ap, al, ar, ao, ah, ab) (nI (sc x)) := by
  have e0 : pp_v sc tg (px_hb n sp) st x = if tg = true ∧ sc x < st.1 then pp_v1 (px_hb n sp) (sc x, 0, st.2.2.1, 0) x else pp_v1 (px_hb n sp) st x := if_neg (by omega)
  cases tg with
  | false =>
    have e1 : pp_v sc false (px_hb n sp) st x = pp_v1 (px_hb n sp) st x := by rw [e0, if_neg (by intro z; exact absurd z.1 (by decide))]
    rw [e1] at K
    have K : ∀ b : Nat → Int32, post (xtx, xst, xos, xrc, xlm, xtg, xsp, nI (pp_v1 (px_hb n sp) st x).2.1, nI (pp_v1 (px_hb n sp) st x).2.2.1, px_sm (pp_v1 (px_hb n sp) st x).2.2.2, xfr, xls, xbc, aw, az, ac, ap, al, ar, ao, ah, b) := by
      intro b
      rw [hlm]
      exact K b
    exact br_t htg (px_v30 k hn hsp hs T C hft hfs hsm hb K)
  | true =>
    refine br_f (by rw [htg]; decide) ?_
    by_cases h : sc x < st.1
    · have e1 : pp_v sc true (px_hb n sp) st x = pp_v1 (px_hb n sp) (sc x, 0, st.2.2.1, 0) x := by rw [e0, if_pos ⟨rfl, h⟩]
      rw [e1] at K
      exact br_f (by rw [hlm]; exact nI_ge h (by omega)) (px_v30 (st := (sc x, 0, st.2.2.1, 0)) k hn hsp hs T C rfl hfs rfl (Nat.zero_le _) K)
    · have e1 : pp_v sc true (px_hb n sp) st x = pp_v1 (px_hb n sp) st x := by rw [e0, if_neg (fun z => h z.2)]
      rw [e1] at K
      have K : ∀ b : Nat → Int32, post (xtx, xst, xos, xrc, xlm, xtg, xsp, nI (pp_v1 (px_hb n sp) st x).2.1, nI (pp_v1 (px_hb n sp) st x).2.2.1, px_sm (pp_v1 (px_hb n sp) st x).2.2.2, xfr, xls, xbc, aw, az, ac, ap, al, ar, ao, ah, b) := by
        intro b
        rw [hlm]
        exact K b
      exact br_t (by rw [hlm]; exact nI_le (by omega) (by omega)) (px_v30 k hn hsp hs T C hft hfs hsm hb K)
end PX4
end
section
/-! the search -/
section PX5
variable {xtx xst xos xrc xlm xtg xsp xft xfs xsm xfr xls xbc : Int32} {aw az ac ap al ar ao ah ab : Nat → Int32}
def px_ST (st : pp_St) (lm ft fs sm : Int32) : Prop :=
  lm = nI st.1 ∧ ft = nI st.2.1 ∧ fs = nI st.2.2.1 ∧ sm = px_sm st.2.2.2 ∧ st.1 < 2 ^ 30 ∧ st.2.2.2 ≤ 105
def px_TQ (t c : Nat) : Nat → Nat → (Nat → Int32) → (Nat → Nat) → Int32 → (Nat → Int32) → (Nat → Int32) → (Nat → Int32) → (Nat → Int32) → (Nat → Int32) → (Nat → Int32) → Prop
  | 0, m, w, S, rc, z, co, p, l, r, o => px_TS t c m w S rc z co p l r o
  | q + 1, m, w, S, rc, z, co, p, l, r, o => px_TS (t + 1) (c + pp_U t * q) m w S rc z co p l r o
theorem px_sm1 (q : Nat) : px_sm q + 1 = nI q := by
  cases q with
  | zero => decide
  | succ b => exact nI_1 b
theorem px_smn {q : Nat} (h : q < 1000) : px_sm q < 0 ↔ q = 0 := by
  cases q with
  | zero => exact ⟨fun _ => rfl, fun _ => by decide⟩
  | succ b => exact ⟨fun h => absurd h (nI_pos (by omega)), fun h => absurd h (by omega)⟩
theorem pp_vb {sc : Nat → Nat} {tg : Bool} {hs : Nat → Bool} {st : pp_St} {x : Nat} (h : st.2.2.2 ≤ 105) (hx : x < 105) : (pp_v sc tg hs st x).1 ≤ st.1 ∧ (pp_v sc tg hs st x).2.2.2 ≤ 105 := by
  have w : ∀ s : pp_St, s.2.2.2 ≤ 105 → (pp_v1 hs s x).1 = s.1 ∧ (pp_v1 hs s x).2.2.2 ≤ 105 := by
    intro s hs
    refine ⟨rfl, ?_⟩
    show (if s.2.2.2 = 0 ∨ x + 1 < s.2.2.2 then x + 1 else s.2.2.2) ≤ 105
    split <;> omega
  unfold pp_v
  by_cases h1 : st.1 < sc x
  · rw [if_pos h1]; exact ⟨Nat.le_refl _, h⟩
  · rw [if_neg h1]
    by_cases h2 : tg = true ∧ sc x < st.1
    · rw [if_pos h2]
      have g := w (sc x, 0, st.2.2.1, 0) (Nat.zero_le _)
      exact ⟨by rw [g.1]; exact Nat.le_of_lt h2.2, g.2⟩
    · rw [if_neg h2]
      have g := w st h
      exact ⟨by rw [g.1]; exact Nat.le_refl _, g.2⟩
theorem pp_ok105 {n x : Nat} (k : pp_ok n x) : x < 105 := by
  obtain ⟨k1, k2, k3⟩ := k
  rcases (by omega : n = 3 ∨ n = 4 ∨ n = 5 ∨ n = 6) with rfl | rfl | rfl | rfl <;> simp only [Nat.reduceAdd, pp_u3, pp_u4, pp_u5, pp_u6] at k3 <;> omega
theorem pp_dgm {t c u : Nat} (h3 : 3 ≤ u) (hu : u < t) (h5 : t ≤ 5) : pp_dg (c % pp_U t) u = pp_dg c u := by
  unfold pp_dg
  rcases (by omega : t = 4 ∧ u = 3 ∨ t = 5 ∧ u = 3 ∨ t = 5 ∧ u = 4) with ⟨rfl, rfl⟩ | ⟨rfl, rfl⟩ | ⟨rfl, rfl⟩ <;> simp only [Nat.reduceAdd, Nat.reduceMul, Nat.reduceSub, pp_u3, pp_u4, pp_u5, pp_u6] <;> omega
theorem px_s57 {post : SX → Prop} {n m sp : Nat} {tg : Bool} {S W : Nat → Nat} (h4 : 4 ≤ n) (h6 : n ≤ 6) (hn : xtx = nI n) (hm : xst = nI m) (hm8 : m ≤ 8) (hS : pp_SR S)
    (hW : ∀ s, s < m → px_w xos aw s = nI (W s)) (hW9 : ∀ s, s < 8 → W s ≤ 9) (hsp : xsp = nI sp) (hs : sp ≤ 2 ^ n - 1) (htg : xtg = if tg = true then 1 else 0) (fin : pp_St)
    (K : ∀ (rc lm ft fs sm : Int32) (z co p l r o h b : Nat → Int32), px_ST fin lm ft fs sm → (∀ i, i < 48 → z i = nI (S i)) → post (xtx, xst, xos, rc, lm, xtg, xsp, ft, fs, sm, xfr, xls, xbc, aw, z, co, p, l, r, o, h, b)) :
    ∀ f j c q step (st : pp_St) (rc lm ft fs sm : Int32) (z co p l r o h b : Nat → Int32), j + 4 ≤ n → pp_ok (j + 3) c → q ≤ 2 * (j + 3) - 3 → pp_rm n j c q ≤ f → step + pp_rm n j c q ≤ 399 →
      (pp_rs n j c q).foldl (pp_v (fun x => pp_sc n x S W m) tg (px_hb n sp)) st = fin → px_ST st lm ft fs sm → px_CH (j + 3) c h → h (j + 3) = px_sm q →
      px_TQ (j + 3) c q m (px_w xos aw) S rc z co p l r o →
      wX_search_57 post (f + 1) (nI (j + 3)) (nI step) xtx xst xos rc lm xtg xsp ft fs sm xfr xls xbc aw z co p l r o h b := by
  intro f
  induction f with
  | zero =>
    intro j c q step st rc lm ft fs sm z co p l r o h b hj k hq hf
    have := pp_rm1 n j c q
    omega
  | succ f ih =>
    intro j c q step st rc lm ft fs sm z co p l r o h b hj k hq hf hst hfold hST hC hh hT
    have r1 := pp_rm1 n j c q
    have it : vp_in (nI (j + 3)) 6 := vp_in_nI (by omega) (by decide)
    have et : (nI (j + 3)).toNatClampNeg = j + 3 := nI_clamp (by omega)
    have body : ∀ (rc : Int32) (z co p l r o : Nat → Int32), px_TS (j + 3) c m (px_w xos aw) S rc z co p l r o → (q = 2 * (j + 3) - 3 → px_TQ (j + 3) c q m (px_w xos aw) S rc z co p l r o ∨ True) →
        wX_search_83 post (wX_search_57 post (f + 1)) (nI (j + 3)) (nI step) xtx xst xos rc lm xtg xsp ft fs sm xfr xls xbc aw z co p l r o h b := by
      intro rc z co p l r o T _
      refine And.intro it (And.intro it (nm_r (e' := upd h (j + 3) (nI q)) (by rw [et, hh, px_sm1]) (And.intro it ?_)))
      have hq1 : (upd h (j + 3) (nI q)) (nI (j + 3)).toNatClampNeg = nI q := by rw [et, pk_us]
      by_cases c1 : q < 2 * (j + 3) - 3
      · have k' := pp_insk k (by omega) c1
        refine br_t (by rw [hq1, px_e24 (by omega)]; exact nI_le (by omega) (by omega)) (And.intro it ?_)
        rw [hq1]
        refine px_ins k (by omega) c1 hm hm8 T ?_
        intro rc z co p l r o T
        refine px_tot k' hm hm8 hS T hW ?_
        have hC' : px_CH (j + 3 + 1) (c + pp_U (j + 3) * q) (upd h (j + 3) (nI q)) := by
          intro u u3 ut
          by_cases e : u = j + 3
          · rw [e, pk_us, pp_dgt k (by omega) c1]
          · rw [pk_un e, pp_dgs k (by omega) c1 u3 (by omega)]
            exact hC u u3 (by omega)
        have hrm := pp_rmq (n := n) (j := j) (c := c) (q := q) (by omega) c1
        have hrs := pp_rsq (n := n) (j := j) (c := c) (q := q) (by omega) c1
        have hsb := pp_scb (S := S) (W := W) k' hW9 m hm8
        have hCq : px_CH (j + 3) c (upd h (j + 3) (nI q)) := by
          intro u u3 ut
          rw [pk_un (by omega)]
          exact hC u u3 ut
        by_cases c2 : st.1 < pp_sc (j + 3 + 1) (c + pp_U (j + 3) * q) S W m
        · refine br_t (by rw [hST.1]; exact nI_lt c2 (by omega)) (nm_r (nI_1 step) ?_)
          refine ih j c (q + 1) (step + 1) st rc lm ft fs sm z co p l r o _ b hj k (by omega) (by omega) (by omega) ?_ hST hCq (by rw [pk_us]; rfl) T
          have hv : (pp_lv (n - (j + 4)) (j + 4) (c + pp_U (j + 3) * q)).foldl (pp_v (fun x => pp_sc n x S W m) tg (px_hb n sp)) st = st := by
            refine pp_vno _ _ fun x hx => ?_
            have := (pp_lvm (W := W) hS hm8 h6 _ _ _ (by omega) k' x hx).2
            show st.1 < pp_sc n x S W m
            omega
          rw [← hfold, hrs, List.foldl_append, hv]
        · refine br_f (by rw [hST.1]; exact nI_nlt (by omega) (by have := hST.2.2.2.2.1; omega)) ?_
          have en : xtx - 1 = nI (n - 1) := by rw [hn]; exact pk_sub (a := n) (b := 1) (by omega)
          by_cases c3 : j + 3 = n - 1
          · have e1 : j + 3 + 1 = n := by omega
            refine br_t (by rw [en, c3]) ?_
            rw [e1] at T k' hC' c2 ⊢
            have x105 := pp_ok105 k'
            refine px_vis (sc := fun x => pp_sc n x S W m) (tg := tg) (st := st) k' hn hsp hs T.1 hC' htg hST.1 hST.2.1 hST.2.2.1 hST.2.2.2.1 hST.2.2.2.2.2 hST.2.2.2.2.1 (by show pp_sc n _ S W m ≤ st.1; omega) ?_
            intro b
            refine nm_r (nI_1 step) ?_
            have vb := pp_vb (sc := fun x => pp_sc n x S W m) (tg := tg) (hs := px_hb n sp) (st := st) (x := c + pp_U (j + 3) * q) hST.2.2.2.2.2 x105
            refine ih j c (q + 1) (step + 1) (pp_v (fun x => pp_sc n x S W m) tg (px_hb n sp) st (c + pp_U (j + 3) * q)) rc _ _ _ _ z co p l r o _ b hj k (by omega) (by omega) (by omega) ?_ ⟨rfl, rfl, rfl, rfl, by have := hST.2.2.2.2.1; omega, vb.2⟩ hCq (by rw [pk_us]; rfl) ?_
            · rw [← hfold, hrs, List.foldl_append, show n - (j + 4) = 0 from by omega]
              rfl
            · show px_TS (j + 3 + 1) _ _ _ _ _ _ _ _ _ _ _
              rw [e1]
              exact T
          · refine br_f (by rw [en, nI_eq (by omega) (by omega)]; exact c3) (nm_r (e' := nI (j + 1 + 3)) (nI_1 (j + 3)) (And.intro (vp_in_nI (by omega) (by decide)) (nm_r (e' := upd (upd h (j + 3) (nI q)) (j + 1 + 3) (-1)) (by rw [nI_clamp (by omega)]) (nm_r (nI_1 step) ?_))))
            have hrd := pp_rmd (n := n) (j := j) (c := c) (q := q) (by omega) (by omega) k c1
            refine ih (j + 1) (c + pp_U (j + 3) * q) 0 (step + 1) st rc lm ft fs sm z co p l r o _ b (by omega) k' (by omega) (by omega) (by omega) ?_ hST ?_ (by rw [pk_us]; rfl) T
            · rw [pp_rsd (by omega) (by omega) k c1]
              exact hfold
            · intro u u3 ut
              rw [pk_un (by omega)]
              exact hC' u u3 ut
      · have eq : q = 2 * (j + 3) - 3 := by omega
        refine br_f (by rw [hq1, px_e24 (by omega)]; exact nI_ge (by omega) (by omega)) (nm_r (e' := nI (j + 2)) (pk_m1 (j + 2)) (nm_r (nI_1 step) ?_))
        subst eq
        cases j with
        | zero =>
          have e : fin = st := by rw [← hfold]; rfl
          exact br_f (nI_ge (b := 400) (by omega) (by decide)) (br_t (by decide) (K _ _ _ _ _ _ _ _ _ _ _ _ _ (by rw [e]; exact hST) T.2.2.1))
        | succ j =>
          have D := pp_dn (t := j + 3) (c := c) (by omega) (by omega) k.2.2
          have hrm : pp_rm n (j + 1) c (2 * (j + 1 + 3) - 3) = 1 + pp_rm n j (c % pp_U (j + 3)) (c / pp_U (j + 3) + 1) := pp_rme
          have hrs : pp_rs n (j + 1) c (2 * (j + 1 + 3) - 3) = pp_rs n j (c % pp_U (j + 3)) (c / pp_U (j + 3) + 1) := pp_rse
          refine ih j (c % pp_U (j + 3)) (c / pp_U (j + 3) + 1) (step + 1) st rc lm ft fs sm z co p l r o _ b (by omega) D.1 (by omega) (by omega) (by omega) ?_ hST ?_ ?_ ?_
          · rw [← hfold, hrs]
          · intro u u3 ut
            rw [pk_un (by omega), pp_dgm u3 ut (by omega)]
            exact hC u u3 (by omega)
          · rw [pk_un (by omega), hC (j + 3) (by omega) (by omega)]
            show nI (c / pp_U (j + 3) % (2 * (j + 3) - 3)) = nI (c / pp_U (j + 3))
            rw [Nat.mod_eq_of_lt D.2.1]
          · show px_TS (j + 3 + 1) (c % pp_U (j + 3) + pp_U (j + 3) * (c / pp_U (j + 3))) _ _ _ _ _ _ _ _ _ _
            rw [D.2.2]
            exact T
    refine br_f (nI_ge (b := 400) (by omega) (by decide)) (br_f (nI_nlt (b := 3) (by omega) (by omega)) (And.intro it ?_))
    cases q with
    | zero =>
      refine br_t (by rw [et, hh]; decide) ?_
      exact body rc z co p l r o hT (fun _ => Or.inr trivial)
    | succ q =>
      refine br_f (by rw [et, hh]; exact nI_pos (by omega)) ?_
      refine px_und k (by omega) (by omega : q < 2 * (j + 3) - 3) hm hm8 hT ?_
      intro rc z co p l r o T
      exact body rc z co p l r o T (fun _ => Or.inr trivial)
theorem px_srch {post : SX → Prop} {n m sp L : Nat} {tg : Bool} {S W : Nat → Nat} (h3 : 3 ≤ n) (h6 : n ≤ 6) (hn : xtx = nI n) (hm : xst = nI m) (hm8 : m ≤ 8) (hS : pp_SR S)
    (hW : ∀ s, s < m → px_w xos aw s = nI (W s)) (hW9 : ∀ s, s < 8 → W s ≤ 9) (hsp : xsp = nI sp) (hs : sp ≤ 2 ^ n - 1) (htg : xtg = if tg = true then 1 else 0) (hlm : xlm = nI L) (hL : L < 2 ^ 30) (hz : ∀ i, i < 48 → az i = nI (S i))
    (K : ∀ (rc lm ft fs sm : Int32) (z co p l r o h b : Nat → Int32), px_ST ((pp_lv (n - 3) 3 0).foldl (pp_v (fun x => pp_sc n x S W m) tg (px_hb n sp)) (L, 0, 0, 0)) lm ft fs sm → (∀ i, i < 48 → z i = nI (S i)) →
      post (xtx, xst, xos, rc, lm, xtg, xsp, ft, fs, sm, xfr, xls, xbc, aw, z, co, p, l, r, o, h, b)) : wpX_search post (xtx, xst, xos, xrc, xlm, xtg, xsp, xft, xfs, xsm, xfr, xls, xbc, aw, az, ac, ap, al, ar, ao, ah, ab) := by
  unfold wpX_search
  dsimp only
  refine px_start hm hm8 hz ?_
  intro rc z co p l r o T
  dsimp only
  by_cases c1 : n = 3
  · subst c1
    refine br_t (by rw [hn]; rfl) ?_
    refine px_tot pp_ok3 hm hm8 hS T hW ?_
    have hsb := pp_scb (S := S) (W := W) pp_ok3 hW9 m hm8
    by_cases c2 : L < pp_sc 3 0 S W m
    · refine br_t (by rw [hlm]; exact nI_lt c2 (by omega)) (K _ _ _ _ _ _ _ _ _ _ _ _ _ ?_ T.2.2.1)
      rw [pp_vno]
      · exact ⟨hlm, rfl, rfl, rfl, hL, Nat.zero_le _⟩
      · intro x hx
        have : x = 0 := List.mem_singleton.mp hx
        subst this
        exact c2
    · refine br_f (by rw [hlm]; exact nI_nlt (by omega) (by omega)) ?_
      refine px_vis (sc := fun x => pp_sc 3 x S W m) (tg := tg) (st := (L, 0, 0, 0)) pp_ok3 hn hsp hs T.1 (fun u a b => absurd b (by omega)) htg hlm rfl rfl rfl (Nat.zero_le _) hL (by show pp_sc 3 0 S W m ≤ L; omega) ?_
      intro b
      have vb := pp_vb (sc := fun x => pp_sc 3 x S W m) (tg := tg) (hs := px_hb 3 sp) (st := (L, 0, 0, 0)) (x := 0) (Nat.zero_le _) (by decide)
      exact K _ _ _ _ _ _ _ _ _ _ _ _ _ ⟨rfl, rfl, rfl, rfl, Nat.lt_of_le_of_lt vb.1 hL, vb.2⟩ T.2.2.1
  · have h4 : 4 ≤ n := by omega
    refine br_f (by rw [hn]; intro e; exact c1 ((nI_eq (b := 3) (by omega) (by decide)).mp e)) (nm_e ?_)
    have hrm := pp_rmi n (by omega) h4
    refine Exists.intro 143 ?_
    refine px_s57 h4 h6 hn hm hm8 hS hW hW9 hsp hs htg _ K 142 0 0 0 0 (L, 0, 0, 0) rc xlm 0 0 (-1) z co p l r o _ ab (by omega) pp_ok3 (by omega) hrm (by omega) (by rw [pp_rsi h4]) ⟨hlm, rfl, rfl, rfl, hL, Nat.zero_le _⟩ (fun u a b => absurd b (by omega)) rfl T
end PX5
end
section
/-! best codes, pure; findLeast, prepare, collect, buildTree -/
def pp_isb (N : Nat) (sc : Nat → Nat) (b : Nat) : Prop := b < N ∧ ∀ x, x < N → sc b ≤ sc x ∧ (sc x = sc b → b ≤ x)
def pp_bs (sc : Nat → Nat) : Nat → Nat
  | 0 => 0
  | k + 1 => if sc k < sc (pp_bs sc k) then k else pp_bs sc k
theorem pp_bsI (sc : Nat → Nat) : ∀ N, 1 ≤ N → pp_isb N sc (pp_bs sc N) := by
  intro N
  induction N with
  | zero => intro h; omega
  | succ k ih =>
    intro _
    by_cases h0 : k = 0
    · subst h0
      have e : pp_bs sc 1 = 0 := if_neg (Nat.lt_irrefl _)
      rw [e]
      refine ⟨by omega, fun x hx => ?_⟩
      have : x = 0 := by omega
      subst this
      exact ⟨Nat.le_refl _, fun _ => Nat.le_refl _⟩
    · have I := ih (by omega)
      by_cases h : sc k < sc (pp_bs sc k)
      · have e : pp_bs sc (k + 1) = k := if_pos h
        rw [e]
        refine ⟨by omega, fun x hx => ?_⟩
        by_cases hk : x = k
        · subst hk; exact ⟨Nat.le_refl _, fun _ => Nat.le_refl _⟩
        · have := (I.2 x (by omega)).1
          exact ⟨by omega, fun z => absurd z (by omega)⟩
      · have e : pp_bs sc (k + 1) = pp_bs sc k := if_neg h
        rw [e]
        refine ⟨by have := I.1; omega, fun x hx => ?_⟩
        by_cases hk : x = k
        · subst hk
          have := I.1
          exact ⟨by omega, fun _ => by omega⟩
        · exact I.2 x (by omega)
theorem pp_isbu {N : Nat} {sc : Nat → Nat} {a b : Nat} (ha : pp_isb N sc a) (hb : pp_isb N sc b) : a = b := by
  have h1 := ha.2 b hb.1
  have h2 := hb.2 a ha.1
  have e : sc a = sc b := by omega
  have := h1.2 e.symm
  have := h2.2 e
  omega
theorem pp_U1 {n : Nat} : 1 ≤ pp_U n := by
  unfold pp_U
  split
  · omega
  · split
    · omega
    · split <;> omega
theorem pp_lvmem {n x : Nat} (h3 : 3 ≤ n) (h6 : n ≤ 6) : x ∈ pp_lv (n - 3) 3 0 ↔ x < pp_U n := by
  rw [(pp_perm n (by omega) h3).mem_iff, List.mem_range]
/-- what the tightening search gives -/
theorem pp_fb {n : Nat} {sc : Nat → Nat} {hs : Nat → Bool} {B : Nat} (h3 : 3 ≤ n) (h6 : n ≤ 6) (hB : ∀ x, x < pp_U n → sc x < B) :
    ((pp_lv (n - 3) 3 0).foldl (pp_v sc true hs) (B, 0, 0, 0)).2.2.2 = pp_bs sc (pp_U n) + 1 ∧ ((pp_lv (n - 3) 3 0).foldl (pp_v sc true hs) (B, 0, 0, 0)).1 = sc (pp_bs sc (pp_U n)) := by
  have g := pp_vbs (sc := sc) (hs := hs) (B := B) (pp_lv (n - 3) 3 0) (B, 0, 0, 0) (fun _ => False) (fun x hx => hB x ((pp_lvmem h3 h6).mp hx)) (Or.inl ⟨rfl, rfl, fun x z => z⟩)
  rcases g with ⟨_, _, g⟩ | ⟨b, h1, h2, h3', h4⟩
  · exact absurd (Or.inr ((pp_lvmem h3 h6).mpr (Nat.lt_of_lt_of_le Nat.zero_lt_one pp_U1))) (g 0)
  · have hb : b < pp_U n := by
      rcases h3' with z | z
      · exact absurd z id
      · exact (pp_lvmem h3 h6).mp z
    have ib : pp_isb (pp_U n) sc b := ⟨hb, fun x hx => h4 x (Or.inr ((pp_lvmem h3 h6).mpr hx))⟩
    have e := pp_isbu ib (pp_bsI sc (pp_U n) pp_U1)
    rw [← e]
    exact ⟨h1, h2⟩
/-- what the counting search gives -/
theorem pp_fc {n : Nat} {sc : Nat → Nat} {hs : Nat → Bool} {L : Nat} (h3 : 3 ≤ n) (h6 : n ≤ 6) :
    ((pp_lv (n - 3) 3 0).foldl (pp_v sc false hs) (L, 0, 0, 0)).2.1 = (List.range (pp_U n)).countP (fun x => decide (sc x ≤ L)) ∧
    ((pp_lv (n - 3) 3 0).foldl (pp_v sc false hs) (L, 0, 0, 0)).2.2.1 = (List.range (pp_U n)).countP (fun x => decide (sc x ≤ L) && hs x) := by
  have g := pp_vct (sc := sc) (hs := hs) (L := L) (pp_lv (n - 3) 3 0) (L, 0, 0, 0) rfl
  have p := pp_perm n (by omega) h3
  rw [g.1, g.2, p.countP_eq, p.countP_eq]
  exact ⟨Nat.zero_add _, Nat.zero_add _⟩
/-- the score of a whole tree -/
def pp_S (n m : Nat) (S W : Nat → Nat) (x : Nat) : Nat := pp_sc n x S W m
theorem pp_Sb {n m : Nat} {S W : Nat → Nat} (h3 : 3 ≤ n) (h6 : n ≤ 6) (hm8 : m ≤ 8) (hW9 : ∀ s, s < 8 → W s ≤ 9) {x : Nat} (hx : x < pp_U n) : pp_S n m S W x ≤ 360 := by
  have := pp_scb (S := S) (W := W) (⟨h3, h6, hx⟩ : pp_ok n x) hW9 m hm8
  unfold pp_S
  omega
section PX6
variable {xtx xst xos xrc xlm xtg xsp xft xfs xsm xfr xls xbc : Int32} {aw az ac ap al ar ao ah ab : Nat → Int32}
theorem px_fl {post : SX → Prop} {n m : Nat} {S W : Nat → Nat} {q : Int32} (h3 : 3 ≤ n) (h6 : n ≤ 6) (hn : xtx = nI n) (hm : xst = nI m) (hm8 : m ≤ 8) (hS : pp_SR S)
    (hW : ∀ s, s < m → px_w q aw s = nI (W s)) (hW9 : ∀ s, s < 8 → W s ≤ 9) (hz : ∀ i, i < 48 → az i = nI (S i))
    (K : ∀ (rc ft fs : Int32) (z co p l r o h b : Nat → Int32), (∀ i, i < 48 → z i = nI (S i)) →
      post (xtx, xst, (-1), rc, nI (pp_S n m S W (pp_bs (pp_S n m S W) (pp_U n))), 1, 0, ft, fs, nI (pp_bs (pp_S n m S W) (pp_U n)), xfr, xls, xbc, aw, z, co, p, l, r, o, h, b)) :
    wpX_findLeast post (xtx, xst, xos, xrc, xlm, xtg, xsp, xft, xfs, xsm, xfr, xls, xbc, aw, az, ac, ap, al, ar, ao, ah, ab) q := by
  unfold wpX_findLeast
  dsimp only
  refine px_srch (sp := 0) (L := 1000000) (tg := true) h3 h6 hn hm hm8 hS hW hW9 rfl (Nat.zero_le _) rfl rfl (by decide) hz ?_
  intro rc lm ft fs sm z co p l r o h b hST hz'
  have g := pp_fb (sc := pp_S n m S W) (hs := px_hb n 0) (B := 1000000) h3 h6 (fun x hx => by have := pp_Sb (S := S) h3 h6 hm8 hW9 hx; omega)
  have e1 : lm = nI (pp_S n m S W (pp_bs (pp_S n m S W) (pp_U n))) := by rw [← g.2]; exact hST.1
  have e2 : sm = nI (pp_bs (pp_S n m S W) (pp_U n)) := by
    have : sm = px_sm (pp_bs (pp_S n m S W) (pp_U n) + 1) := by rw [← g.1]; exact hST.2.2.2.1
    exact this
  rw [e1, e2]
  exact K rc ft fs z co p l r o h b hz'
theorem px_prep {post : SX → Prop} {n m : Nat} {S W : Nat → Nat} (h3 : 3 ≤ n) (h6 : n ≤ 6) (hn : xtx = nI n) (hm : xst = nI m) (hm8 : m ≤ 8) (hS : pp_SR S) (hos : xos = -1)
    (hW : ∀ s, s < 8 → aw s = nI (W s)) (hW9 : ∀ s, s < 8 → W s ≤ 9) (hz : ∀ i, i < 48 → az i = nI (S i))
    (hfr : ¬ xfr = 0 → xls = nI (pp_S n m S W (pp_bs (pp_S n m S W) (pp_U n))) ∧ xbc = nI (pp_bs (pp_S n m S W) (pp_U n)))
    (K : ∀ (rc lm tg sp ft fs sm fr : Int32) (z co p l r o h b : Nat → Int32), (∀ i, i < 48 → z i = nI (S i)) →
      post (xtx, xst, (-1), rc, lm, tg, sp, ft, fs, sm, fr, nI (pp_S n m S W (pp_bs (pp_S n m S W) (pp_U n))), nI (pp_bs (pp_S n m S W) (pp_U n)), aw, z, co, p, l, r, o, h, b)) :
    wpX_prepare post (xtx, xst, xos, xrc, xlm, xtg, xsp, xft, xfs, xsm, xfr, xls, xbc, aw, az, ac, ap, al, ar, ao, ah, ab) := by
  by_cases h : xfr = 0
  · refine br_t h ?_
    refine px_fl (W := W) h3 h6 hn hm hm8 hS (fun s hs => ?_) hW9 hz ?_
    · rw [← hW s (by omega)]
      exact if_pos (by decide)
    · intro rc ft fs z co p l r o h b hz'
      exact K _ _ _ _ _ _ _ _ _ _ _ _ _ _ _ _ hz'
  · refine br_f h ?_
    have g := hfr h
    have K := K xrc xlm xtg xsp xft xfs xsm xfr az ac ap al ar ao ah ab hz
    rw [← g.1, ← g.2, ← hos] at K
    exact K
theorem px_col {post : SX → Prop} {n m sp L : Nat} {S W : Nat → Nat} (h3 : 3 ≤ n) (h6 : n ≤ 6) (hn : xtx = nI n) (hm : xst = nI m) (hm8 : m ≤ 8) (hS : pp_SR S) (hos : xos = -1)
    (hW : ∀ s, s < 8 → aw s = nI (W s)) (hW9 : ∀ s, s < 8 → W s ≤ 9) (hz : ∀ i, i < 48 → az i = nI (S i)) (hs : sp ≤ 2 ^ n - 1) (hL : L < 2 ^ 30)
    (K : ∀ (rc lm sm : Int32) (z co p l r o h b : Nat → Int32), (∀ i, i < 48 → z i = nI (S i)) →
      post (xtx, xst, xos, rc, lm, 0, nI sp, nI ((List.range (pp_U n)).countP (fun x => decide (pp_S n m S W x ≤ L))), nI ((List.range (pp_U n)).countP (fun x => decide (pp_S n m S W x ≤ L) && px_hb n sp x)), sm, xfr, xls, xbc, aw, z, co, p, l, r, o, h, b)) :
    wpX_collect post (xtx, xst, xos, xrc, xlm, xtg, xsp, xft, xfs, xsm, xfr, xls, xbc, aw, az, ac, ap, al, ar, ao, ah, ab) (nI L) (nI sp) := by
  unfold wpX_collect
  dsimp only
  refine px_srch (sp := sp) (L := L) (tg := false) (W := W) h3 h6 hn hm hm8 hS (fun s hs => ?_) hW9 rfl hs rfl rfl hL hz ?_
  · rw [← hW s (by omega), hos]
    exact if_pos (by decide)
  · intro rc lm ft fs sm z co p l r o h b hST hz'
    have g := pp_fc (sc := pp_S n m S W) (hs := px_hb n sp) (L := L) h3 h6
    have e1 : ft = nI ((List.range (pp_U n)).countP (fun x => decide (pp_S n m S W x ≤ L))) := by rw [← g.1]; exact hST.2.1
    have e2 : fs = nI ((List.range (pp_U n)).countP (fun x => decide (pp_S n m S W x ≤ L) && px_hb n sp x)) := by rw [← g.2]; exact hST.2.2.1
    rw [e1, e2]
    exact K rc lm sm z co p l r o h b hz'
theorem pp_cdn {t x : Nat} (h3 : 3 ≤ t) (h5 : t ≤ 5) : x / pp_U t % (2 * t - 3) < 2 * t - 3 ∧ x % pp_U t + pp_U t * (x / pp_U t % (2 * t - 3)) = x % pp_U (t + 1) ∧ x / pp_U t / (2 * t - 3) = x / pp_U (t + 1) ∧ x % pp_U t < pp_U t := by
  rcases (by omega : t = 3 ∨ t = 4 ∨ t = 5) with rfl | rfl | rfl <;> simp only [Nat.reduceAdd, Nat.reduceMul, Nat.reduceSub, pp_u3, pp_u4, pp_u5, pp_u6] <;> omega
theorem px_bt8 {post : SX → Prop} {n m x : Nat} {S : Nat → Nat} (h6 : n ≤ 6) (hx : x < 2 ^ 30) (hn : xtx = nI n) (hm : xst = nI m) (hm8 : m ≤ 8)
    (K : ∀ (rc : Int32) (z co p l r o : Nat → Int32), px_TS n (x % pp_U n) m (px_w xos aw) S rc z co p l r o → post (xtx, xst, xos, rc, xlm, xtg, xsp, xft, xfs, xsm, xfr, xls, xbc, aw, z, co, p, l, r, o, ah, ab)) :
    ∀ d t (rc : Int32) (z co p l r o : Nat → Int32), 3 ≤ t → t + d = n → px_TS t (x % pp_U t) m (px_w xos aw) S rc z co p l r o →
      wX_buildTree_8 post (d + 1) (nI (x / pp_U t)) (nI t) xtx xst xos rc xlm xtg xsp xft xfs xsm xfr xls xbc aw z co p l r o ah ab := by
  intro d
  induction d with
  | zero =>
    intro t rc z co p l r o h3 e T
    have et : t = n := by omega
    subst et
    exact br_t (by rw [hn]; exact nI_le (Nat.le_refl _) (by omega)) (K rc z co p l r o T)
  | succ d ih =>
    intro t rc z co p l r o h3 e T
    have D := pp_cdn (t := t) (x := x) h3 (by omega)
    have hx' : x / pp_U t < 2 ^ 30 := Nat.lt_of_le_of_lt (Nat.div_le_self _ _) hx
    have ne : ¬ nI (2 * t - 3) = 0 := nI_ne0 (by omega) (by omega)
    refine br_f (by rw [hn]; exact nI_ge (by omega) (by omega)) (nm_r (px_e23 h3) (And.intro ne ?_))
    rw [pk_rem (by omega) (by omega) (by omega)]
    refine px_ins (⟨h3, by omega, D.2.2.2⟩ : pp_ok t (x % pp_U t)) (by omega) D.1 hm hm8 T ?_
    intro rc z co p l r o T
    rw [D.2.1] at T
    refine And.intro ne (nm_r (e' := nI (x / pp_U (t + 1))) (by rw [pk_div (by omega) (by omega) (by omega), D.2.2.1]) (nm_r (nI_1 t) ?_))
    exact ih (t + 1) rc z co p l r o (by omega) (by omega) T
theorem px_bt {post : SX → Prop} {n m x : Nat} {S : Nat → Nat} (k : pp_ok n x) (hn : xtx = nI n) (hm : xst = nI m) (hm8 : m ≤ 8) (hz : ∀ i, i < 48 → az i = nI (S i))
    (K : ∀ (rc : Int32) (z co p l r o : Nat → Int32), px_TS n x m (px_w xos aw) S rc z co p l r o → post (xtx, xst, xos, rc, xlm, xtg, xsp, xft, xfs, xsm, xfr, xls, xbc, aw, z, co, p, l, r, o, ah, ab)) : wpX_buildTree post (xtx, xst, xos, xrc, xlm, xtg, xsp, xft, xfs, xsm, xfr, xls, xbc, aw, az, ac, ap, al, ar, ao, ah, ab) (nI x) := by
  have x105 := pp_ok105 k
  unfold wpX_buildTree
  dsimp only
  refine px_start hm hm8 hz ?_
  intro rc z co p l r o T
  refine Exists.intro (n - 3 + 1) ?_
  have e : x % pp_U n = x := Nat.mod_eq_of_lt k.2.2
  have T : px_TS 3 (x % pp_U 3) m (px_w xos aw) S rc z co p l r o := by rw [pp_u3, Nat.mod_one]; exact T
  have g := px_bt8 (post := post) (x := x) (xlm := xlm) (xtg := xtg) (xsp := xsp) (xft := xft) (xfs := xfs) (xsm := xsm) (xfr := xfr) (xls := xls) (xbc := xbc) (ah := ah) (ab := ab) k.2.1 (by omega) hn hm hm8 (by rw [e]; exact K) (n - 3) 3 rc z co p l r o (by omega) (by have := k.1; omega) T
  rw [pp_u3, Nat.div_one] at g
  exact g
end PX6
end
section
/-! the reference: build, edgeTo, depth, leaves, join -/
section PY1
variable {yn ys yk : Int32} {bz bw bn bf bc bd be : Nat → Int32}
def py_BA (t c : Nat) (nr fr : Nat → Int32) : Prop := ∀ e, e < 2 * t - 3 → fr e = nI (pp_Lo t c e) ∧ nr e = nI (pp_P t c (pp_Lo t c e))
theorem py_BA3 : py_BA 3 0 (upd (upd (upd bn 0 0) 1 6) 2 6) (upd (upd (upd bf 0 6) 1 1) 2 2) := by
  have I := pp_t3
  intro e he
  rcases (by omega : e = 0 ∨ e = 1 ∨ e = 2) with rfl | rfl | rfl
  · rw [I.2.2.2.2.2.2.1, I.2.1]; exact ⟨rfl, rfl⟩
  · rw [I.2.2.2.2.2.2.2.1, I.2.2.1]; exact ⟨rfl, rfl⟩
  · rw [I.2.2.2.2.2.2.2.2, I.2.2.2.1]; exact ⟨rfl, rfl⟩
theorem py_BAs {t c q : Nat} (k : pp_ok t c) (h5 : t ≤ 5) (hq : q < 2 * t - 3) (B : py_BA t c bn bf) :
    py_BA (t + 1) (c + pp_U t * q) (upd (upd (upd bn (2 * t - 3) (bn q)) q (nI (t + 4))) (2 * t - 2) (nI (t + 4))) (upd (upd bf (2 * t - 3) (nI (t + 4))) (2 * t - 2) (nI t)) := by
  have I := pp_ins k h5 hq
  have t3 := k.1
  intro e he
  by_cases e1 : e = 2 * t - 2
  · rw [e1, pk_us, pk_us, I.2.2.2.2.2.2.2.2, I.2.2.2.1]
    exact ⟨rfl, rfl⟩
  · rw [pk_un e1, pk_un e1]
    by_cases e2 : e = 2 * t - 3
    · rw [e2, pk_us, pk_un (by omega), pk_us, I.2.2.2.2.2.2.2.1, I.2.2.1]
      exact ⟨rfl, (B q hq).2⟩
    · have he' : e < 2 * t - 3 := by omega
      rw [pk_un e2, pp_insE k h5 hq he']
      refine ⟨(B e he').1, ?_⟩
      by_cases e3 : e = q
      · rw [e3, pk_us, I.2.1]
      · rw [pk_un e3, pk_un e2, pp_insP k h5 hq (pp_ed k he').1]
        · exact (B e he').2
        · intro z
          have a := (pp_ed k he').2
          have b := (pp_ed k hq).2
          rw [z, b] at a
          exact e3 a.symm
theorem py_b49 {post : SY → Prop} {n x : Nat} (h6 : n ≤ 6) (hx : x < 2 ^ 30) (hn : yn = nI n) (K : ∀ nr fr : Nat → Int32, py_BA n (x % pp_U n) nr fr → post (yn, ys, yk, bz, bw, nr, fr, bc, bd, be)) :
    ∀ d t (nr fr : Nat → Int32), 3 ≤ t → t + d = n → py_BA t (x % pp_U t) nr fr → wY_build_49 post yn ys yk (d + 1) (nI (x / pp_U t)) (nI t) bz bw nr fr bc bd be := by
  intro d
  induction d with
  | zero =>
    intro t nr fr h3 e B
    have et : t = n := by omega
    subst et
    exact br_t (by rw [hn]; exact nI_le (Nat.le_refl _) (by omega)) (K nr fr B)
  | succ d ih =>
    intro t nr fr h3 e B
    have D := pp_cdn (t := t) (x := x) h3 (by omega)
    have k : pp_ok t (x % pp_U t) := ⟨h3, by omega, D.2.2.2⟩
    have hx' : x / pp_U t < 2 ^ 30 := Nat.lt_of_le_of_lt (Nat.div_le_self _ _) hx
    have e3 := px_e23 h3
    have e2 := px_e22 h3
    have ne : ¬ 2 * nI t - 3 = 0 := by rw [e3]; exact nI_ne0 (by omega) (by omega)
    have i3 := pk_in (2 * t - 3) 9 (by omega) e3
    have i2 := pk_in (2 * t - 2) 9 (by omega) e2
    have c3 : (2 * nI t - 3).toNatClampNeg = 2 * t - 3 := pk_cl (2 * t - 3) e3
    have c2 : (2 * nI t - 2).toNatClampNeg = 2 * t - 2 := pk_cl (2 * t - 2) e2
    have iq : vp_in (nI (x / pp_U t % (2 * t - 3))) 9 := vp_in_nI (by omega) (by decide)
    have cq : (nI (x / pp_U t % (2 * t - 3))).toNatClampNeg = x / pp_U t % (2 * t - 3) := nI_clamp (by omega)
    have S := py_BAs k (by omega) D.1 B
    rw [D.2.1] at S
    refine br_f (by rw [hn]; exact nI_ge (by omega) (by omega)) (And.intro ne (nm_r (e' := nI (x / pp_U t % (2 * t - 3))) (by rw [e3]; exact pk_rem (by omega) (by omega) (by omega)) (And.intro ne (nm_r (e' := nI (x / pp_U (t + 1))) (by rw [e3, pk_div (by omega) (by omega) (by omega), D.2.2.1])
      (nm_r (e' := nI (t + 4)) (by rw [show (4 : Int32) = nI 4 from rfl, nI_add, Nat.add_comm]) (And.intro iq (And.intro i3 (nm_r (by rw [c3, cq]) (And.intro i3 (nm_r (by rw [c3]) (And.intro iq (nm_r (by rw [cq]) (And.intro i2 (nm_r (by rw [c2]) (And.intro i2 (nm_r (by rw [c2]) (nm_r (nI_1 t)
        (ih (t + 1) _ _ (by omega) (by omega) S))))))))))))))))))
theorem py_bld {post : SY → Prop} {n x : Nat} (k : pp_ok n x) (hn : yn = nI n) (K : ∀ nr fr : Nat → Int32, py_BA n x nr fr → post (yn, ys, yk, bz, bw, nr, fr, bc, bd, be)) : wpY_build post (yn, ys, yk, bz, bw, bn, bf, bc, bd, be) (nI x) := by
  have x105 := pp_ok105 k
  have e : x % pp_U n = x := Nat.mod_eq_of_lt k.2.2
  have B : py_BA 3 (x % pp_U 3) (upd (upd (upd bn 0 0) 1 6) 2 6) (upd (upd (upd bf 0 6) 1 1) 2 2) := by rw [pp_u3, Nat.mod_one]; exact py_BA3
  have g := py_b49 (post := post) (ys := ys) (yk := yk) (bz := bz) (bw := bw) (bc := bc) (bd := bd) (be := be) (x := x) k.2.1 (by omega) hn (by rw [e]; exact K) (n - 3) 3 _ _ (by omega) (by have := k.1; omega) B
  rw [pp_u3, Nat.div_one] at g
  exact nm_e (nm_e (nm_e (nm_e (nm_e (nm_e (Exists.intro (n - 3 + 1) g))))))
theorem py_et {post : Int32 → Prop} {n c v : Nat} (k : pp_ok n c) (hn : yn = nI n) (B : py_BA n c bn bf) (hv : pp_nd n v) (h : post (nI (pp_E n c v))) : wpY_edgeTo post (yn, ys, yk, bz, bw, bn, bf, bc, bd, be) (nI v) := by
  have g := pp_no2 k hv
  have k3 := k.1
  have k6 := k.2.1
  have e3 : 2 * yn - 3 = nI (2 * n - 3) := by rw [hn]; exact px_e23 k3
  have aux : ∀ d e, e + d = pp_E n c v → wY_edgeTo_2 post (nI v) yn ys yk bz bw bn bf bc bd be (d + 1) (nI e) := by
    intro d
    induction d with
    | zero =>
      intro e he
      have ee : e = pp_E n c v := by omega
      subst ee
      exact br_f (by rw [e3]; exact nI_ge (by omega) (by omega)) (And.intro (vp_in_nI (by omega) (by decide)) (br_t (by rw [nI_clamp (by omega), (B _ g.2.2.1).1, g.2.2.2.1]) h))
    | succ d ih =>
      intro e he
      have hl : e < 2 * n - 3 := by omega
      have el := (pp_ed k hl)
      refine br_f (by rw [e3]; exact nI_ge (by omega) (by omega)) (And.intro (vp_in_nI (by omega) (by decide)) (br_f ?_ (nm_r (nI_1 e) (ih (e + 1) (by omega)))))
      rw [nI_clamp (by omega), (B e hl).1, nI_eq (by omega) (by omega)]
      intro z
      have := el.2
      rw [z] at this
      omega
  exact Exists.intro (pp_E n c v + 1) (aux (pp_E n c v) 0 (by omega))
theorem py_et0 {post : Int32 → Prop} {n c : Nat} (k : pp_ok n c) (hn : yn = nI n) (B : py_BA n c bn bf) (h : post (-1)) : wpY_edgeTo post (yn, ys, yk, bz, bw, bn, bf, bc, bd, be) (nI 0) := by
  have k3 := k.1
  have k6 := k.2.1
  have e3 : 2 * yn - 3 = nI (2 * n - 3) := by rw [hn]; exact px_e23 k3
  have aux : ∀ d e, e + d = 2 * n - 3 → wY_edgeTo_2 post (nI 0) yn ys yk bz bw bn bf bc bd be (d + 1) (nI e) := by
    intro d
    induction d with
    | zero =>
      intro e he
      exact br_t (by rw [e3]; exact nI_le (by omega) (by omega)) h
    | succ d ih =>
      intro e he
      have hl : e < 2 * n - 3 := by omega
      have el := (pp_ed k hl).1
      refine br_f (by rw [e3]; exact nI_ge (by omega) (by omega)) (And.intro (vp_in_nI (by omega) (by decide)) (br_f ?_ (nm_r (nI_1 e) (ih (e + 1) (by omega)))))
      rw [nI_clamp (by omega), (B e hl).1, nI_eq (by omega) (by omega)]
      omega
  exact Exists.intro (2 * n - 3 + 1) (aux (2 * n - 3) 0 (by omega))
theorem py_dp {post : Int32 → Prop} {n c w : Nat} (k : pp_ok n c) (hn : yn = nI n) (B : py_BA n c bn bf) (hw : pp_nd n w) (h : post (nI (pp_D n c w))) : wpY_depth post (yn, ys, yk, bz, bw, bn, bf, bc, bd, be) (nI w) := by
  have k6 := k.2.1
  have aux : ∀ d i v s, i + d = 9 → s + pp_D n c v = pp_D n c w → pp_D n c v ≤ d → (v = 0 ∨ pp_nd n v) → wY_depth_7 post yn ys yk bz bw bn bf bc bd be (d + 1) (nI v) (nI s) (nI i) := by
    intro d
    induction d with
    | zero =>
      intro i v s hi hs hd hv
      have e : s = pp_D n c w := by omega
      subst e
      exact br_t (nI_le (a := 9) (by omega) (by omega)) h
    | succ d ih =>
      intro i v s hi hs hd hv
      refine br_f (nI_ge (b := 9) (by omega) (by decide)) ?_
      rcases hv with rfl | hv
      · refine py_et0 k hn B ?_
        have z := (pp_rt k).2.2.2
        exact br_t (by decide) (nm_r (nI_1 i) (ih (i + 1) 0 s (by omega) hs (by omega) (Or.inl rfl)))
      · have g := pp_no2 k hv
        have g1 := pp_no k hv
        refine py_et k hn B hv ?_
        refine br_f (nI_pos (by omega)) (And.intro (vp_in_nI (by omega) (by decide)) (nm_r (e' := nI (pp_P n c v)) (by rw [nI_clamp (by omega), (B _ g.2.2.1).2, g.2.2.2.1]) (nm_r (nI_1 s) (nm_r (nI_1 i) (ih (i + 1) (pp_P n c v) (s + 1) (by omega) (by omega) (by omega) ?_)))))
        rcases g1.1 with z | z
        · exact Or.inl z
        · exact Or.inr (Or.inr z)
  exact Exists.intro 10 (aux 9 0 w 0 (by omega) (by omega) (by have := (pp_no2 k hw).2.1; omega) (Or.inr hw))
/-! leaves -/
def py_b0 (S : Nat → Nat) (v f : Nat) : Nat := if v < 6 then pp_lf (S v) f else 0
theorem py_tb : ∀ a, a < 16 → ∀ f, f < 4 → ((nI a >>> (nI f &&& 31)) &&& 1 = 1 ↔ a.testBit f = true) := by decide +kernel
theorem py_n4 (a s : Nat) : nI a * 4 + nI s = nI (a * 4 + s) := by
  rw [show (4 : Int32) = nI 4 from rfl, pk_mul, nI_add]
theorem py_lv10 {post : SY → Prop} {J2 : Int32 → (Nat → Int32) → (Nat → Int32) → (Nat → Int32) → (Nat → Int32) → (Nat → Int32) → (Nat → Int32) → (Nat → Int32) → Prop} {S : Nat → Nat} {g v : Nat} (hg : g < 8) (hv : v < 10) (hS : pp_SR S) (hz : ∀ i, i < 48 → bz i = nI (S i))
    (K : ∀ co : Nat → Int32, (∀ i, i < (v + 1) * 4 → co i = nI (py_b0 (pp_sat S g) (i / 4) (i % 4))) → J2 (nI (v + 1)) bz bw bn bf co bd be) :
    ∀ d f (co : Nat → Int32), f + d = 4 → (∀ i, i < v * 4 + f → co i = nI (py_b0 (pp_sat S g) (i / 4) (i % 4))) → wY_leaves_10 post J2 (nI g) (nI v) yn ys yk (d + 1) (nI f) bz bw bn bf co bd be := by
  intro d
  induction d with
  | zero =>
    intro f co hf hc
    have e : f = 4 := by omega
    subst e
    exact br_t (nI_le (a := 4) (b := 4) (Nat.le_refl _) (by decide)) (nm_r (nI_1 v) (K co (fun i hi => hc i (by omega))))
  | succ d ih =>
    intro f co hf hc
    have e4 := py_n4 v f
    have i4 := pk_in (v * 4 + f) 40 (by omega) e4
    have c4 : (nI v * 4 + nI f).toNatClampNeg = v * 4 + f := pk_cl (v * 4 + f) e4
    have next : ∀ y : Nat, y = py_b0 (pp_sat S g) v f → wY_leaves_10 post J2 (nI g) (nI v) yn ys yk (d + 1) (nI (f + 1)) bz bw bn bf (upd co (v * 4 + f) (nI y)) bd be := by
      intro y ey
      refine ih (f + 1) _ (by omega) fun i hi => ?_
      by_cases e : i = v * 4 + f
      · rw [e, pk_us, ey, show (v * 4 + f) / 4 = v from by omega, show (v * 4 + f) % 4 = f from by omega]
      · rw [pk_un e]; exact hc i (by omega)
    have yes : py_b0 (pp_sat S g) v f = 0 → wY_leaves_39 post J2 (wY_leaves_10 post J2 (nI g) (nI v) yn ys yk (d + 1)) (nI g) (nI v) (nI f) yn ys yk bz bw bn bf co bd be := by
      intro h
      exact br_f (by decide) (And.intro i4 (nm_r (e' := upd co (v * 4 + f) (nI 0)) (by rw [c4]; rfl) (nm_r (nI_1 f) (next 0 h.symm))))
    have no : py_b0 (pp_sat S g) v f = 100 → wY_leaves_44 post J2 (wY_leaves_10 post J2 (nI g) (nI v) yn ys yk (d + 1)) (nI g) (nI v) (nI f) 0 yn ys yk bz bw bn bf co bd be := by
      intro h
      exact br_t rfl (And.intro i4 (nm_r (e' := upd co (v * 4 + f) (nI 100)) (by rw [c4]; rfl) (nm_r (nI_1 f) (next 100 h.symm))))
    refine br_f (nI_ge (b := 4) (by omega) (by decide)) ?_
    by_cases h5 : 5 < v
    · exact br_t (nI_lt (a := 5) h5 (by omega)) (yes (if_neg (by omega)))
    · have e8 := px_n8 v g
      have b0 : py_b0 (pp_sat S g) v f = pp_lf (S (v * 8 + g)) f := if_pos (by omega)
      refine br_f (nI_nlt (a := 5) (by omega) (by decide)) (And.intro (pk_in (v * 8 + g) 48 (by omega) e8) ?_)
      have tb := py_tb (S (v * 8 + g)) (hS _ (by omega)).2 f (by omega)
      have ez : bz (nI v * 8 + nI g).toNatClampNeg = nI (S (v * 8 + g)) := by rw [pk_cl (v * 8 + g) e8]; exact hz _ (by omega)
      by_cases ht : (S (v * 8 + g)).testBit f = true
      · exact br_t (by rw [ez]; exact tb.mpr ht) (yes (by rw [b0]; exact if_pos ht))
      · exact br_f (by rw [ez]; exact fun z => ht (tb.mp z)) (no (by rw [b0]; exact if_neg ht))
theorem py_lvs {post : SY → Prop} {S : Nat → Nat} {g : Nat} (hg : g < 8) (hS : pp_SR S) (hz : ∀ i, i < 48 → bz i = nI (S i))
    (K : ∀ co : Nat → Int32, (∀ i, i < 40 → co i = nI (py_b0 (pp_sat S g) (i / 4) (i % 4))) → post (yn, ys, yk, bz, bw, bn, bf, co, bd, be)) : wpY_leaves post (yn, ys, yk, bz, bw, bn, bf, bc, bd, be) (nI g) := by
  have aux : ∀ d v (co : Nat → Int32), v + d = 10 → (∀ i, i < v * 4 → co i = nI (py_b0 (pp_sat S g) (i / 4) (i % 4))) → wY_leaves_2 post (nI g) yn ys yk (d + 1) (nI v) bz bw bn bf co bd be := by
    intro d
    induction d with
    | zero =>
      intro v co hv hc
      have e : v = 10 := by omega
      subst e
      exact br_t (nI_le (a := 10) (b := 10) (Nat.le_refl _) (by decide)) (K co hc)
    | succ d ih =>
      intro v co hv hc
      refine br_f (nI_ge (b := 10) (by omega) (by decide)) (Exists.intro 5 ?_)
      exact py_lv10 hg (by omega) hS hz (fun co hc => ih (v + 1) co (by omega) hc) 4 0 co (by omega) hc
  exact Exists.intro 11 (aux 10 0 bc (by omega) (fun i hi => absurd hi (by omega)))
/-! join -/
theorem pp_jmb (x : Nat → Nat) (s : Nat) : ∀ f, pp_jm x s f ≤ 1000 := by
  intro f
  induction f with
  | zero => exact Nat.le_refl _
  | succ f ih => exact Nat.le_trans (Nat.min_le_left _ _) ih
theorem py_j14 {post : SY → Prop} {J2 : Int32 → (Nat → Int32) → (Nat → Int32) → (Nat → Int32) → (Nat → Int32) → (Nat → Int32) → (Nat → Int32) → (Nat → Int32) → Prop} {e fr nr s : Nat} {x : Nat → Nat} (he : e < 9) (f10 : fr < 10) (n10 : nr < 10) (hs : s < 4)
    (ef : bf e = nI fr) (en : bn e = nI nr) (hx : ∀ f, f < 4 → bc (fr * 4 + f) = nI (x f)) (xb : ∀ f, f < 4 → x f ≤ 1000)
    (K : J2 (nI (s + 1)) bz bw bn bf (upd bc (nr * 4 + s) (bc (nr * 4 + s) + nI (pp_jm x s 4))) bd be) :
    ∀ d f, f + d = 4 → wY_join_14 post J2 (nI e) (nI s) yn ys yk bz bw bn bf bc bd be (d + 1) (nI (pp_jm x s f)) (nI f) := by
  have ie : vp_in (nI e) 9 := vp_in_nI he (by decide)
  have ce : (nI e).toNatClampNeg = e := nI_clamp (by omega)
  intro d
  induction d with
  | zero =>
    intro f hf
    have e4 : f = 4 := by omega
    subst e4
    have ez : (bn (nI e).toNatClampNeg) * 4 + nI s = nI (nr * 4 + s) := by rw [ce, en]; exact py_n4 nr s
    have iz := pk_in (nr * 4 + s) 40 (by omega) ez
    refine br_t (nI_le (a := 4) (b := 4) (Nat.le_refl _) (by decide)) (And.intro ie (And.intro ie (And.intro iz (And.intro iz (nm_r (e' := upd bc (nr * 4 + s) (bc (nr * 4 + s) + nI (pp_jm x s 4))) ?_ (nm_r (nI_1 s) K))))))
    rw [pk_cl (nr * 4 + s) ez]
  | succ d ih =>
    intro f hf
    have ez : (bf (nI e).toNatClampNeg) * 4 + nI f = nI (fr * 4 + f) := by rw [ce, ef]; exact py_n4 fr f
    have iz := pk_in (fr * 4 + f) 40 (by omega) ez
    have ev : bc ((bf (nI e).toNatClampNeg) * 4 + nI f).toNatClampNeg = nI (x f) := by rw [pk_cl (fr * 4 + f) ez]; exact hx f (by omega)
    have jb := pp_jmb x s f
    have xf := xb f (by omega)
    have k := ih (f + 1) (by omega)
    have step : ∀ y, y = pp_ne s f → wY_join_47 post J2 (wY_join_14 post J2 (nI e) (nI s) yn ys yk bz bw bn bf bc bd be (d + 1)) (nI e) (nI s) (nI (pp_jm x s f)) (nI f) (nI y) (bc ((bf (nI e).toNatClampNeg) * 4 + nI f).toNatClampNeg) yn ys yk bz bw bn bf bc bd be := by
      intro y ey
      have n1 := pp_ne1 s f
      refine nm_r (e' := nI (x f + y)) (by rw [ev, nI_add]) ?_
      have em : pp_jm x s (f + 1) = min (pp_jm x s f) (x f + y) := by rw [ey]; rfl
      rw [em] at k
      by_cases h : pp_jm x s f ≤ x f + y
      · rw [Nat.min_eq_left h] at k
        exact br_t (nI_le h (by omega)) (nm_r (nI_1 f) k)
      · rw [Nat.min_eq_right (by omega)] at k
        exact br_f (nI_ge (by omega) (by omega)) (nm_r (nI_1 f) k)
    refine br_f (nI_ge (b := 4) (by omega) (by decide)) (And.intro ie (And.intro iz ?_))
    by_cases hsf : s = f
    · exact br_t (congrArg nI hsf) (step 0 (if_pos hsf).symm)
    · exact br_f (by rw [nI_eq (by omega) (by omega)]; exact hsf) (step 1 (if_neg hsf).symm)
theorem py_jo {post : SY → Prop} {e fr nr : Nat} {x : Nat → Nat} (he : e < 9) (f10 : fr < 10) (n10 : nr < 10) (hne : fr ≠ nr)
    (ef : bf e = nI fr) (en : bn e = nI nr) (hx : ∀ f, f < 4 → bc (fr * 4 + f) = nI (x f)) (xb : ∀ f, f < 4 → x f ≤ 1000)
    (K : ∀ co : Nat → Int32, (∀ s, s < 4 → co (nr * 4 + s) = bc (nr * 4 + s) + nI (pp_jm x s 4)) → (∀ i, ¬ (nr * 4 ≤ i ∧ i < nr * 4 + 4) → co i = bc i) → post (yn, ys, yk, bz, bw, bn, bf, co, bd, be)) : wpY_join post (yn, ys, yk, bz, bw, bn, bf, bc, bd, be) (nI e) := by
  have aux : ∀ d s (co : Nat → Int32), s + d = 4 → (∀ j, j < s → co (nr * 4 + j) = bc (nr * 4 + j) + nI (pp_jm x j 4)) → (∀ i, ¬ (nr * 4 ≤ i ∧ i < nr * 4 + s) → co i = bc i) → wY_join_2 post (nI e) yn ys yk (d + 1) (nI s) bz bw bn bf co bd be := by
    intro d
    induction d with
    | zero =>
      intro s co hs h1 h2
      have e : s = 4 := by omega
      subst e
      exact br_t (nI_le (a := 4) (b := 4) (Nat.le_refl _) (by decide)) (K co h1 h2)
    | succ d ih =>
      intro s co hs h1 h2
      refine br_f (nI_ge (b := 4) (by omega) (by decide)) (Exists.intro 5 ?_)
      refine py_j14 (bc := co) (x := x) he f10 n10 (by omega) ef en (fun f hf => by rw [h2 _ (by omega)]; exact hx f hf) xb ?_ 4 0 (by omega)
      refine ih (s + 1) _ (by omega) ?_ ?_
      · intro j hj
        by_cases e : j = s
        · rw [e, pk_us, h2 _ (by omega)]
        · rw [pk_un (by omega)]; exact h1 j (by omega)
      · intro i hi
        rw [pk_un (by omega)]
        exact h2 i (by omega)
  exact Exists.intro 5 (aux 4 0 bc (by omega) (fun j hj => absurd hj (by omega)) (fun _ _ => rfl))
end PY1
end
section
/-! changesAt, workOut -/
section PY2
variable {yn ys yk : Int32} {bz bw bn bf bc bd be : Nat → Int32}
def py_tj (n c : Nat) (S : Nat → Nat) (jn : Nat → Bool) (u f : Nat) : Nat := if jn u = true then pp_gg (pp_fv n c S u) f else 0
/-- the cost of a node, the edges to the nodes of jn being joined -/
def py_cv (n c : Nat) (S : Nat → Nat) (jn : Nat → Bool) (v f : Nat) : Nat :=
  py_b0 S v f + (if v = 0 then py_tj n c S jn (pp_Rc n c) f else if v < 6 then 0 else py_tj n c S jn (pp_L n c v) f + py_tj n c S jn (pp_R n c v) f)
theorem py_tjx {n c u f : Nat} {S : Nat → Nat} {a b : Nat → Bool} (h : a u = b u) : py_tj n c S a u f = py_tj n c S b u f := by
  unfold py_tj
  rw [h]
theorem py_cvx {n c v f : Nat} {S : Nat → Nat} {a b : Nat → Bool} (k : pp_ok n c) (h : ∀ u, pp_nd n u → a u = b u) (hv : v = 0 ∨ pp_nd n v) : py_cv n c S a v f = py_cv n c S b v f := by
  have k6 := k.2.1
  unfold py_cv
  by_cases h0 : v = 0
  · rw [if_pos h0, if_pos h0, py_tjx (h _ (Or.inr (pp_rt k).1))]
  · rw [if_neg h0, if_neg h0]
    by_cases h6 : v < 6
    · rw [if_pos h6, if_pos h6]
    · have f := pp_in k (v := v) (by omega) (by omega)
      rw [if_neg h6, if_neg h6, py_tjx (h _ f.1), py_tjx (h _ f.2.1)]
theorem py_cvj {n c v f : Nat} {S : Nat → Nat} {a b : Nat → Bool} (k : pp_ok n c) (hv : pp_nd n v) (ha : a v = false) (hb : ∀ u, pp_nd n u → b u = (a u || u == v)) :
    py_cv n c S b (pp_P n c v) f = py_cv n c S a (pp_P n c v) f + pp_gg (pp_fv n c S v) f := by
  have k6 := k.2.1
  have N := pp_no k hv
  have t1 : py_tj n c S b v f = pp_gg (pp_fv n c S v) f := by
    unfold py_tj
    rw [hb v hv, ha, beq_self_eq_true, Bool.false_or, if_pos rfl]
  have t0 : py_tj n c S a v f = 0 := by
    unfold py_tj
    rw [ha, if_neg (by decide)]
  have tn : ∀ u, pp_nd n u → u ≠ v → py_tj n c S b u f = py_tj n c S a u f := by
    intro u hu ne
    refine py_tjx ?_
    rw [hb u hu, beq_false_of_ne ne, Bool.or_false]
  unfold py_cv
  by_cases h0 : pp_P n c v = 0
  · rw [if_pos h0, if_pos h0, ← N.2.1 h0, t1, t0]
    omega
  · have p6 : ¬ pp_P n c v < 6 := by omega
    have F := pp_in k (v := pp_P n c v) (by omega) (by omega)
    rw [if_neg h0, if_neg h0, if_neg p6, if_neg p6]
    rcases N.2.2 h0 with e | e
    · rw [e] at F ⊢
      rw [t1, t0, tn _ F.2.1 (fun z => F.2.2.1 z.symm)]
      omega
    · rw [e] at F ⊢
      rw [t1, t0, tn _ F.1 F.2.2.1]
      omega
theorem py_cvn {n c v u f : Nat} {S : Nat → Nat} {a b : Nat → Bool} (k : pp_ok n c) (hv : pp_nd n v) (hb : ∀ u, pp_nd n u → b u = (a u || u == v)) (hu : u = 0 ∨ pp_nd n u) (ne : u ≠ pp_P n c v) :
    py_cv n c S b u f = py_cv n c S a u f := by
  have k6 := k.2.1
  have tn : ∀ u, pp_nd n u → u ≠ v → py_tj n c S b u f = py_tj n c S a u f := by
    intro u hu ne
    refine py_tjx ?_
    rw [hb u hu, beq_false_of_ne ne, Bool.or_false]
  unfold py_cv
  by_cases h0 : u = 0
  · have r := pp_rt k
    rw [if_pos h0, if_pos h0, tn _ (Or.inr r.1)]
    intro z
    rw [← z, r.2.1] at ne
    exact ne h0
  · rw [if_neg h0, if_neg h0]
    by_cases h6 : u < 6
    · rw [if_pos h6, if_pos h6]
    · have f := pp_in k (v := u) (by omega) (by omega)
      have f2 := pp_in2 k (v := u) (by omega) (by omega)
      rw [if_neg h6, if_neg h6, tn _ f.1 (by intro z; rw [← z, f2.1] at ne; exact ne rfl), tn _ f.2.1 (by intro z; rw [← z, f2.2.1] at ne; exact ne rfl)]
theorem py_ggb {n c v f : Nat} {S : Nat → Nat} (k : pp_ok n c) (hv : pp_nd n v) : pp_gg (pp_fv n c S v) f ≤ 101 := by
  have a := pp_f2 (S := S) k v hv
  have b := pp_zb1 (pp_fv n c S v).1 f
  unfold pp_gg
  omega
theorem py_tjb {n c u f : Nat} {S : Nat → Nat} {a : Nat → Bool} (k : pp_ok n c) (hu : pp_nd n u) : py_tj n c S a u f ≤ 101 := by
  unfold py_tj
  split
  · exact py_ggb k hu
  · omega
theorem py_cvb {n c v f : Nat} {S : Nat → Nat} {a : Nat → Bool} (k : pp_ok n c) (hv : v = 0 ∨ pp_nd n v) : py_cv n c S a v f ≤ 302 := by
  have k6 := k.2.1
  have b0 : py_b0 S v f ≤ 100 := by
    unfold py_b0 pp_lf
    split
    · split <;> omega
    · omega
  unfold py_cv
  by_cases h0 : v = 0
  · rw [if_pos h0]
    have := py_tjb (S := S) (a := a) (f := f) k (Or.inr (pp_rt k).1 : pp_nd n (pp_Rc n c))
    omega
  · rw [if_neg h0]
    by_cases h6 : v < 6
    · rw [if_pos h6]; omega
    · have F := pp_in k (v := v) (by omega) (by omega)
      have := py_tjb (S := S) (a := a) (f := f) k F.1
      have := py_tjb (S := S) (a := a) (f := f) k F.2.1
      rw [if_neg h6]
      omega
/-- the children joined: the edge's least costs are Fitch's -/
theorem py_jmv {n c v s : Nat} {S : Nat → Nat} {a : Nat → Bool} (k : pp_ok n c) (hS : pp_sr S) (hv : pp_nd n v) (hs : s < 4) (hj : 6 ≤ v → a (pp_L n c v) = true ∧ a (pp_R n c v) = true) :
    pp_jm (fun f => py_cv n c S a v f) s 4 = pp_gg (pp_fv n c S v) s := by
  have k6 := k.2.1
  have h0 : ¬ v = 0 := by omega
  by_cases h6 : v < 6
  · rw [pp_fvl h6]
    refine pp_jlf (hS v h6) (fun f hf => ?_) hs
    show py_b0 S v f + _ = _
    rw [if_neg h0, if_pos h6]
    exact if_pos h6
  · have F := pp_in k (v := v) (by omega) (by omega)
    have j := hj (by omega)
    have rg := pp_fr k hS
    have c1 := pp_f2 (S := S) k _ F.1
    have c2 := pp_f2 (S := S) k _ F.2.1
    rw [pp_fvi k (by omega) (by omega)]
    refine pp_jin (rg _ F.1) (rg _ F.2.1) (by omega) (fun f hf => ?_) hs
    show py_b0 S v f + _ = _
    have b : py_b0 S v f = 0 := if_neg h6
    have t1 : py_tj n c S a (pp_L n c v) f = pp_gg (pp_fv n c S (pp_L n c v)) f := if_pos j.1
    have t2 : py_tj n c S a (pp_R n c v) f = pp_gg (pp_fv n c S (pp_R n c v)) f := if_pos j.2
    rw [if_neg h0, if_neg h6, b, t1, t2, Nat.zero_add]
/-- joined when the edges of depth above j are, and of those of depth j the ones below e -/
def py_jn (n c j e u : Nat) : Bool := decide (j < pp_D n c u ∨ (pp_D n c u = j ∧ pp_E n c u < e))
def py_CI (n c : Nat) (S : Nat → Nat) (jn : Nat → Bool) (co : Nat → Int32) : Prop := ∀ v, (v = 0 ∨ pp_nd n v) → ∀ f, f < 4 → co (v * 4 + f) = nI (py_cv n c S jn v f)
theorem py_CIx {n c : Nat} {S : Nat → Nat} {a b : Nat → Bool} {co : Nat → Int32} (k : pp_ok n c) (h : ∀ u, pp_nd n u → a u = b u) (C : py_CI n c S a co) : py_CI n c S b co := by
  intro v hv f hf
  rw [C v hv f hf, py_cvx k h hv]
theorem py_c14 {post : Int32 → SY → Prop} {J8 : Int32 → Int32 → Int32 → Int32 → (Nat → Int32) → (Nat → Int32) → (Nat → Int32) → (Nat → Int32) → (Nat → Int32) → (Nat → Int32) → (Nat → Int32) → Prop} {n c j : Nat} {S : Nat → Nat} (k : pp_ok n c) (hn : yn = nI n) (hS : pp_sr S) (B : py_BA n c bn bf)
    (hd : ∀ e, e < 2 * n - 3 → bd e = nI (pp_D n c (pp_Lo n c e))) (hj : j ≤ 9)
    (K : ∀ co : Nat → Int32, py_CI n c S (py_jn n c j 0) co → J8 (nI j) yn ys yk bz bw bn bf co bd be) :
    ∀ d e (co : Nat → Int32), e + d = 2 * n - 3 → py_CI n c S (py_jn n c (j + 1) e) co → wY_changesAt_14 post J8 (nI (j + 1)) (d + 1) (nI e) yn ys yk bz bw bn bf co bd be := by
  have k3 := k.1
  have k6 := k.2.1
  have e3 : 2 * yn - 3 = nI (2 * n - 3) := by rw [hn]; exact px_e23 k3
  intro d
  induction d with
  | zero =>
    intro e co he C
    have ee : e = 2 * n - 3 := by omega
    subst ee
    refine br_t (by rw [e3]; exact nI_le (Nat.le_refl _) (by omega)) (nm_r (pk_m1 j) (K co (py_CIx k (fun u hu => ?_) C)))
    have g := pp_no2 k hu
    unfold py_jn
    rw [decide_eq_decide]
    omega
  | succ d ih =>
    intro e co he C
    have hl : e < 2 * n - 3 := by omega
    have L := pp_ed k hl
    have g := pp_no2 k L.1
    have N := pp_no k L.1
    have ce : (nI e).toNatClampNeg = e := nI_clamp (by omega)
    refine br_f (by rw [e3]; exact nI_ge (by omega) (by omega)) (And.intro (vp_in_nI (by omega) (by decide)) ?_)
    by_cases h : pp_D n c (pp_Lo n c e) = j + 1
    · refine br_t (by rw [ce, hd e hl, h]) ?_
      have hP : pp_P n c (pp_Lo n c e) = 0 ∨ pp_nd n (pp_P n c (pp_Lo n c e)) := by
        rcases N.1 with z | z
        · exact Or.inl z
        · exact Or.inr (Or.inr z)
      refine py_jo (bc := co) (x := fun f => py_cv n c S (py_jn n c (j + 1) e) (pp_Lo n c e) f) (by omega) (by omega) (pp_p10 ..) (fun z => g.2.2.2.2 z.symm) (B e hl).1 (B e hl).2 (fun f hf => C _ (Or.inr L.1) f hf) (fun f hf => Nat.le_trans (py_cvb k (Or.inr L.1)) (by decide)) ?_
      intro co' h1 h2
      refine nm_r (nI_1 e) (ih (e + 1) co' (by omega) ?_)
      have jv : py_jn n c (j + 1) e (pp_Lo n c e) = false := by
        unfold py_jn
        rw [decide_eq_false_iff_not, L.2]
        omega
      have jb : ∀ u, pp_nd n u → py_jn n c (j + 1) (e + 1) u = (py_jn n c (j + 1) e u || u == pp_Lo n c e) := by
        intro u hu
        have gu := pp_no2 k hu
        by_cases eu : u = pp_Lo n c e
        · rw [← eu] at h L ⊢
          rw [beq_self_eq_true, Bool.or_true]
          unfold py_jn
          rw [decide_eq_true_iff, L.2]
          omega
        · rw [beq_false_of_ne eu, Bool.or_false]
          unfold py_jn
          rw [decide_eq_decide]
          have : pp_E n c u ≠ e := by
            intro z
            rw [z] at gu
            exact eu gu.2.2.2.1.symm
          omega
      have jm : ∀ s, s < 4 → pp_jm (fun f => py_cv n c S (py_jn n c (j + 1) e) (pp_Lo n c e) f) s 4 = pp_gg (pp_fv n c S (pp_Lo n c e)) s := by
        intro s hs
        refine py_jmv k hS L.1 hs fun h6 => ?_
        have f2 := pp_in2 k h6 (by omega)
        unfold py_jn
        rw [decide_eq_true_iff, decide_eq_true_iff]
        omega
      intro u hu f hf
      by_cases eu : u = pp_P n c (pp_Lo n c e)
      · rw [eu, h1 f hf, jm f hf, C _ hP f hf, nI_add, py_cvj k L.1 jv jb]
      · rw [h2 _ (by omega), C u hu f hf, py_cvn k L.1 jb hu eu]
    · refine br_f (by rw [ce, hd e hl, nI_eq (by omega) (by omega)]; exact h) (nm_r (nI_1 e) (ih (e + 1) co (by omega) (py_CIx k (fun u hu => ?_) C)))
      have gu := pp_no2 k hu
      unfold py_jn
      rw [decide_eq_decide]
      have : pp_D n c u = j + 1 → pp_E n c u ≠ e := by
        intro y z
        rw [z] at gu
        rw [gu.2.2.2.1] at h
        exact h y
      omega
theorem py_c59 {post : Int32 → SY → Prop} {x : Nat → Nat} (hx : ∀ f, f < 4 → bc f = nI (x f)) (xb : ∀ f, f < 4 → x f ≤ 1000) (K : post (nI (pp_km x 4)) (yn, ys, yk, bz, bw, bn, bf, bc, bd, be)) :
    ∀ d f, f + d = 4 → wY_changesAt_59 post yn ys yk bz bw bn bf bc bd be (d + 1) (nI (pp_km x f)) (nI f) := by
  have kb : ∀ f, pp_km x f ≤ 1000 := by
    intro f
    induction f with
    | zero => exact Nat.le_refl _
    | succ f ih => exact Nat.le_trans (Nat.min_le_left _ _) ih
  intro d
  induction d with
  | zero =>
    intro f hf
    have e : f = 4 := by omega
    subst e
    exact br_t (nI_le (a := 4) (b := 4) (Nat.le_refl _) (by decide)) K
  | succ d ih =>
    intro f hf
    have i4 : vp_in (nI f) 40 := vp_in_nI (by omega) (by decide)
    have ev : bc (nI f).toNatClampNeg = nI (x f) := by rw [nI_clamp (by omega)]; exact hx f (by omega)
    have k := ih (f + 1) (by omega)
    have b1 := kb f
    have b2 := xb f (by omega)
    have em : pp_km x (f + 1) = min (pp_km x f) (x f) := rfl
    rw [em] at k
    refine br_f (nI_ge (b := 4) (by omega) (by decide)) (And.intro i4 ?_)
    by_cases h : pp_km x f ≤ x f
    · rw [Nat.min_eq_left h] at k
      exact br_t (by rw [ev]; exact nI_le h (by omega)) (nm_r (nI_1 f) k)
    · rw [Nat.min_eq_right (by omega)] at k
      exact br_f (by rw [ev]; exact nI_ge (by omega) (by omega)) (And.intro i4 (nm_r ev (nm_r (nI_1 f) k)))
theorem py_ch {post : Int32 → SY → Prop} {n c g : Nat} {S : Nat → Nat} (k : pp_ok n c) (hn : yn = nI n) (hg : g < 8) (hS : pp_SR S) (hz : ∀ i, i < 48 → bz i = nI (S i)) (B : py_BA n c bn bf)
    (hd : ∀ e, e < 2 * n - 3 → bd e = nI (pp_D n c (pp_Lo n c e))) (K : ∀ co : Nat → Int32, post (nI (pp_N n c (pp_sat S g))) (yn, ys, yk, bz, bw, bn, bf, co, bd, be)) : wpY_changesAt post (yn, ys, yk, bz, bw, bn, bf, bc, bd, be) (nI g) := by
  have k3 := k.1
  have k6 := k.2.1
  have hs := pp_sats hS hg
  have r := pp_rt k
  have aux : ∀ j (co : Nat → Int32), j ≤ 9 → py_CI n c (pp_sat S g) (py_jn n c j 0) co → wY_changesAt_8 post (j + 1) (nI j) yn ys yk bz bw bn bf co bd be := by
    intro j
    induction j with
    | zero =>
      intro co _ C
      refine br_t (by decide) (Exists.intro 5 ?_)
      have rn : pp_nd n (pp_Rc n c) := Or.inr r.1
      have e0 : ∀ f, f < 4 → py_cv n c (pp_sat S g) (py_jn n c 0 0) 0 f = pp_lf (pp_sat S g 0) f + pp_gg (pp_fv n c (pp_sat S g) (pp_Rc n c)) f := by
        intro f hf
        have j : py_jn n c 0 0 (pp_Rc n c) = true := by
          unfold py_jn
          rw [decide_eq_true_iff, r.2.2.1]
          omega
        have t : py_tj n c (pp_sat S g) (py_jn n c 0 0) (pp_Rc n c) f = pp_gg (pp_fv n c (pp_sat S g) (pp_Rc n c)) f := if_pos j
        show py_b0 (pp_sat S g) 0 f + (if (0 : Nat) = 0 then _ else _) = _
        rw [if_pos rfl, t]
        rfl
      have v := pp_k0 (pp_fr k hs _ rn) (hs 0 (by omega)) (Nat.le_trans (pp_f2 k _ rn) (by decide)) e0
      refine py_c59 (bc := co) (x := fun f => py_cv n c (pp_sat S g) (py_jn n c 0 0) 0 f) (fun f hf => ?_) (fun f hf => Nat.le_trans (py_cvb k (Or.inl rfl)) (by decide)) ?_ 4 0 (by omega)
      · have := C 0 (Or.inl rfl) f hf
        rw [Nat.zero_mul, Nat.zero_add] at this
        exact this
      · rw [v]
        exact K co
    | succ j ih =>
      intro co hj C
      refine br_f (nI_nle (by omega) (by omega)) (Exists.intro (2 * n - 3 + 1) ?_)
      exact py_c14 k hn hs B hd (by omega) (fun co C => ih co (by omega) C) (2 * n - 3) 0 co (by omega) C
  unfold wpY_changesAt
  dsimp only
  refine py_lvs hg hS hz ?_
  intro co hc
  refine Exists.intro 10 (aux 9 co (by omega) ?_)
  intro v hv f hf
  have v10 : v < 10 := by omega
  have jf : ∀ u, pp_nd n u → py_jn n c 9 0 u = (fun _ => false) u := by
    intro u hu
    have := (pp_no2 k hu).2.1
    unfold py_jn
    rw [decide_eq_false_iff_not]
    omega
  rw [py_cvx k jf hv, hc _ (by omega), show (v * 4 + f) / 4 = v from by omega, show (v * 4 + f) % 4 = f from by omega]
  refine congrArg nI ?_
  have tf : ∀ u, py_tj n c (pp_sat S g) (fun _ => false) u f = 0 := fun u => if_neg Bool.false_ne_true
  unfold py_cv
  rw [tf, tf, tf]
  split
  · rfl
  · split <;> rfl
/-! workOut -/
def py_ok (n m : Nat) (S : Nat → Nat) (x : Nat) (ne : Nat → Int32) : Prop := ∀ c, c < x → ∀ s, s < m → ne (c * 8 + s) = nI (pp_N n c (pp_sat S s))
theorem py_tr {post : Int32 → Prop} {n : Nat} (h3 : 3 ≤ n) (h6 : n ≤ 6) (hn : yn = nI n) (h : post (nI (pp_U n))) : wpY_trees post (yn, ys, yk, bz, bw, bn, bf, bc, bd, be) := by
  rcases (by omega : n = 3 ∨ n = 4 ∨ n = 5 ∨ n = 6) with rfl | rfl | rfl | rfl
  · exact br_t (by rw [hn]; rfl) h
  · exact br_f (by rw [hn]; decide) (br_t (by rw [hn]; rfl) h)
  · exact br_f (by rw [hn]; decide) (br_f (by rw [hn]; decide) (br_t (by rw [hn]; rfl) h))
  · exact br_f (by rw [hn]; decide) (br_f (by rw [hn]; decide) (br_f (by rw [hn]; decide) h))
theorem py_w61 {post : SY → Prop} {J : Int32 → Int32 → Int32 → Int32 → (Nat → Int32) → (Nat → Int32) → (Nat → Int32) → (Nat → Int32) → (Nat → Int32) → (Nat → Int32) → (Nat → Int32) → Prop} {n m x : Nat} {S : Nat → Nat} (k : pp_ok n x) (hn : yn = nI n) (hm : ys = nI m) (hm8 : m ≤ 8) (hS : pp_SR S) (hz : ∀ i, i < 48 → bz i = nI (S i)) (B : py_BA n x bn bf)
    (hd : ∀ e, e < 2 * n - 3 → bd e = nI (pp_D n x (pp_Lo n x e)))
    (K : ∀ co ne : Nat → Int32, py_ok n m S (x + 1) ne → J (nI (x + 1)) yn ys yk bz bw bn bf co bd ne) :
    ∀ d s (co ne : Nat → Int32), s + d = m → py_ok n m S x ne → (∀ j, j < s → ne (x * 8 + j) = nI (pp_N n x (pp_sat S j))) → wY_workOut_61 post J (nI x) (d + 1) (nI s) yn ys yk bz bw bn bf co bd ne := by
  have x105 := pp_ok105 k
  intro d
  induction d with
  | zero =>
    intro s co ne hs h1 h2
    have e : s = m := by omega
    subst e
    refine br_t (by rw [hm]; exact nI_le (Nat.le_refl _) (by omega)) (nm_r (nI_1 x) (K co ne ?_))
    intro c hc j hj
    by_cases e : c = x
    · subst e; exact h2 j hj
    · exact h1 c (by omega) j hj
  | succ d ih =>
    intro s co ne hs h1 h2
    refine br_f (by rw [hm]; exact nI_ge (by omega) (by omega)) ?_
    refine py_ch k hn (by omega) hS hz B hd ?_
    intro co
    have e8 := px_n8 x s
    refine And.intro (pk_in (x * 8 + s) 840 (by omega) e8) (nm_r (e' := upd ne (x * 8 + s) (nI (pp_N n x (pp_sat S s)))) (by rw [pk_cl (x * 8 + s) e8]) (nm_r (nI_1 s) (ih (s + 1) co _ (by omega) ?_ ?_)))
    · intro c hc j hj
      rw [pk_un (by omega)]
      exact h1 c hc j hj
    · intro j hj
      by_cases e : j = s
      · rw [e, pk_us]
      · rw [pk_un (by omega)]; exact h2 j (by omega)
theorem py_w25 {post : SY → Prop} {J : Int32 → Int32 → Int32 → Int32 → (Nat → Int32) → (Nat → Int32) → (Nat → Int32) → (Nat → Int32) → (Nat → Int32) → (Nat → Int32) → (Nat → Int32) → Prop} {n m x : Nat} {S : Nat → Nat} (k : pp_ok n x) (hn : yn = nI n) (hm : ys = nI m) (hm8 : m ≤ 8) (hS : pp_SR S) (hz : ∀ i, i < 48 → bz i = nI (S i)) (B : py_BA n x bn bf) (h1 : py_ok n m S x be)
    (K : ∀ co dd ne : Nat → Int32, py_ok n m S (x + 1) ne → J (nI (x + 1)) yn ys yk bz bw bn bf co dd ne) :
    ∀ d e (dd : Nat → Int32), e + d = 2 * n - 3 → (∀ j, j < e → dd j = nI (pp_D n x (pp_Lo n x j))) → wY_workOut_25 post J (nI x) yn ys yk (d + 1) (nI e) bz bw bn bf bc dd be := by
  have k3 := k.1
  have k6 := k.2.1
  have e3 : 2 * yn - 3 = nI (2 * n - 3) := by rw [hn]; exact px_e23 k3
  intro d
  induction d with
  | zero =>
    intro e dd he h2
    have ee : e = 2 * n - 3 := by omega
    subst ee
    refine br_t (by rw [e3]; exact nI_le (Nat.le_refl _) (by omega)) (Exists.intro (m + 1) ?_)
    exact py_w61 k hn hm hm8 hS hz B h2 (fun co ne h => K co dd ne h) m 0 bc be (by omega) h1 (fun j hj => absurd hj (by omega))
  | succ d ih =>
    intro e dd he h2
    have hl : e < 2 * n - 3 := by omega
    have ce : (nI e).toNatClampNeg = e := nI_clamp (by omega)
    have ie : vp_in (nI e) 9 := vp_in_nI (by omega) (by decide)
    refine br_f (by rw [e3]; exact nI_ge (by omega) (by omega)) (And.intro ie ?_)
    rw [ce, (B e hl).1]
    refine py_dp k hn B (pp_ed k hl).1 ?_
    refine And.intro ie (nm_e (nm_r (nI_1 e) (ih (e + 1) _ (by omega) fun j hj => ?_)))
    by_cases e1 : j = e
    · rw [e1, pk_us]
    · rw [pk_un e1]; exact h2 j (by omega)
theorem py_w10 {post : SY → Prop} {n m : Nat} {S : Nat → Nat} (h3 : 3 ≤ n) (h6 : n ≤ 6) (hn : yn = nI n) (hm : ys = nI m) (hm8 : m ≤ 8) (hS : pp_SR S) (hz : ∀ i, i < 48 → bz i = nI (S i))
    (K : ∀ nr fr co dd ne : Nat → Int32, py_ok n m S (pp_U n) ne → post (yn, ys, 1, bz, bw, nr, fr, co, dd, ne)) :
    ∀ d x (nr fr co dd ne : Nat → Int32), x + d = pp_U n → py_ok n m S x ne → wY_workOut_10 post (d + 1) (nI x) yn ys yk bz bw nr fr co dd ne := by
  have u105 : pp_U n ≤ 105 := by
    have := pp_ok105 (n := n) (x := pp_U n - 1) ⟨h3, h6, by have := pp_U1 (n := n); omega⟩
    omega
  intro d
  induction d with
  | zero =>
    intro x nr fr co dd ne hx h1
    have e : x = pp_U n := by omega
    subst e
    unfold wY_workOut_10
    refine py_tr h3 h6 hn ?_
    exact br_t (nI_le (Nat.le_refl _) (by omega)) (K nr fr co dd ne h1)
  | succ d ih =>
    intro x nr fr co dd ne hx h1
    have k : pp_ok n x := ⟨h3, h6, by omega⟩
    unfold wY_workOut_10
    refine py_tr h3 h6 hn ?_
    refine br_f (nI_ge (by omega) (by omega)) ?_
    refine py_bld k hn ?_
    intro nr fr B
    refine Exists.intro (2 * n - 3 + 1) ?_
    exact py_w25 k hn hm hm8 hS hz B h1 (fun co dd ne h => ih (x + 1) nr fr co dd ne (by omega) h) (2 * n - 3) 0 dd (by omega) (fun j hj => absurd hj (by omega))
theorem py_wo {post : SY → Prop} {n m : Nat} {S : Nat → Nat} (h3 : 3 ≤ n) (h6 : n ≤ 6) (hn : yn = nI n) (hm : ys = nI m) (hm8 : m ≤ 8) (hS : pp_SR S) (hz : ∀ i, i < 48 → bz i = nI (S i))
    (hk : ¬ yk = 0 → py_ok n m S (pp_U n) be)
    (K : ∀ (kk : Int32) (nr fr co dd ne : Nat → Int32), py_ok n m S (pp_U n) ne → ¬ kk = 0 → post (yn, ys, kk, bz, bw, nr, fr, co, dd, ne)) : wpY_workOut post (yn, ys, yk, bz, bw, bn, bf, bc, bd, be) := by
  by_cases h : yk = 0
  · exact br_t h (Exists.intro (pp_U n + 1) (py_w10 h3 h6 hn hm hm8 hS hz (fun nr fr co dd ne h => K 1 nr fr co dd ne h (by decide)) (pp_U n) 0 bn bf bc bd be (by omega) (fun c hc => absurd hc (by omega))))
  · exact br_f h (K yk bn bf bc bd be (hk h) h)
end PY2
end
section
/-! the reference's questions -/
def py_I (n m : Nat) (S W : Nat → Nat) (v : SY) : Prop := match v with
  | (yn, ys, yk, bz, bw, bn, bf, bc, bd, be) => yn = nI n ∧ ys = nI m ∧ (∀ i, i < 48 → bz i = nI (S i)) ∧ (∀ s, s < 8 → bw s = nI (W s)) ∧ (¬ yk = 0 → py_ok n m S (pp_U n) be)
def py_kn (v : SY) : Prop := ¬ v.2.2.1 = 0
abbrev pp_par (n m : Nat) (S W : Nat → Nat) : Prop := 3 ≤ n ∧ n ≤ 6 ∧ 1 ≤ m ∧ m ≤ 8 ∧ pp_SR S ∧ (∀ s, s < 8 → W s ≤ 9)
theorem pp_U105 {n : Nat} (h3 : 3 ≤ n) (h6 : n ≤ 6) : pp_U n ≤ 105 := by
  have := pp_ok105 (n := n) (x := pp_U n - 1) ⟨h3, h6, by have := pp_U1 (n := n); omega⟩
  omega
section PY3
variable {yn ys yk : Int32} {bz bw bn bf bc bd be : Nat → Int32}
theorem py_s23 {post : Int32 → SY → Prop} {n m x : Nat} {S W : Nat → Nat} (p : pp_par n m S W) (hx : x < pp_U n) (hm : ys = nI m) (hw : ∀ s, s < 8 → bw s = nI (W s)) (ho : py_ok n m S (pp_U n) be)
    (K : post (nI (pp_S n m S W x)) (yn, ys, yk, bz, bw, bn, bf, bc, bd, be)) : ∀ d s, s + d = m → wY_score_23 post (nI x) yn ys yk bz bw bn bf bc bd be (d + 1) (nI (pp_sc n x S W s)) (nI s) := by
  obtain ⟨p1, p2, p3, p4, p5, p6⟩ := p
  have x105 := pp_U105 p1 p2
  intro d
  induction d with
  | zero =>
    intro s hs
    have e : s = m := by omega
    subst e
    exact br_t (by rw [hm]; exact nI_le (Nat.le_refl _) (by omega)) K
  | succ d ih =>
    intro s hs
    have e8 := px_n8 x s
    refine br_f (by rw [hm]; exact nI_ge (by omega) (by omega)) (And.intro (pk_in (x * 8 + s) 840 (by omega) e8) (And.intro (vp_in_nI (by omega) (by decide)) (nm_r (e' := nI (pp_sc n x S W (s + 1))) ?_ (nm_r (nI_1 s) (ih (s + 1) (by omega))))))
    rw [pk_cl (x * 8 + s) e8, nI_clamp (by omega), ho x hx s (by omega), hw s (by omega), pk_mul, nI_add, Nat.mul_comm]
    rfl
end PY3
theorem py_sco {post : Int32 → SY → Prop} {n m x : Nat} {S W : Nat → Nat} {v : SY} (p : pp_par n m S W) (I : py_I n m S W v) (hx : x < pp_U n)
    (K : ∀ v', py_I n m S W v' → py_kn v' → post (nI (pp_S n m S W x)) v') : wpY_score post v (nI x) := by
  obtain ⟨yn, ys, yk, bz, bw, bn, bf, bc, bd, be⟩ := v
  obtain ⟨i1, i2, i3, i4, i5⟩ := I
  have x105 := pp_U105 p.1 p.2.1
  refine br_f (nI_pos (by omega)) (py_tr p.1 p.2.1 i1 (br_t (nI_lt hx (by omega)) (py_wo p.1 p.2.1 i1 i2 p.2.2.2.1 p.2.2.2.2.1 i3 i5 ?_)))
  intro kk nr fr co dd ne h hk
  exact Exists.intro (m + 1) (py_s23 p hx i2 i4 h (K _ ⟨i1, i2, i3, i4, fun _ => h⟩ hk) m 0 (by omega))
theorem py_best {post : Int32 → SY → Prop} {n m : Nat} {S W : Nat → Nat} {v : SY} (p : pp_par n m S W) (I : py_I n m S W v)
    (K : ∀ v', py_I n m S W v' → (py_kn v → py_kn v') → post (nI (pp_bs (pp_S n m S W) (pp_U n))) v') : wpY_bestTree post v := by
  have x105 := pp_U105 p.1 p.2.1
  have aux : ∀ d k yn ys yk bz bw bn bf bc bd be, 1 ≤ k → k + d = pp_U n → py_I n m S W (yn, ys, yk, bz, bw, bn, bf, bc, bd, be) → (py_kn v → py_kn (yn, ys, yk, bz, bw, bn, bf, bc, bd, be)) → wY_bestTree_4 post (d + 1) (nI (pp_bs (pp_S n m S W) k)) (nI k) yn ys yk bz bw bn bf bc bd be := by
    intro d
    induction d with
    | zero =>
      intro k yn ys yk bz bw bn bf bc bd be h1 hk I hv
      have e : k = pp_U n := by omega
      subst e
      unfold wY_bestTree_4
      refine py_tr p.1 p.2.1 I.1 ?_
      exact br_t (nI_le (Nat.le_refl _) (by omega)) (K _ I hv)
    | succ d ih =>
      intro k yn ys yk bz bw bn bf bc bd be h1 hk I hv
      have B := pp_bsI (pp_S n m S W) k h1
      have s1 := pp_Sb (m := m) (S := S) (W := W) p.1 p.2.1 p.2.2.2.1 p.2.2.2.2.2 (x := k) (by omega)
      have s2 := pp_Sb (m := m) (S := S) (W := W) p.1 p.2.1 p.2.2.2.1 p.2.2.2.2.2 (x := pp_bs (pp_S n m S W) k) (by have := B.1; omega)
      unfold wY_bestTree_4
      refine py_tr p.1 p.2.1 I.1 ?_
      refine br_f (nI_ge (by omega) (by omega)) ?_
      refine py_sco p I (by omega) ?_
      intro v1 I1 k1
      obtain ⟨yn, ys, yk, bz, bw, bn, bf, bc, bd, be⟩ := v1
      dsimp only
      refine py_sco p I1 (by have := B.1; omega) ?_
      intro v2 I2 k2
      obtain ⟨yn, ys, yk, bz, bw, bn, bf, bc, bd, be⟩ := v2
      dsimp only
      by_cases h : pp_S n m S W k < pp_S n m S W (pp_bs (pp_S n m S W) k)
      · have e : pp_bs (pp_S n m S W) (k + 1) = k := if_pos h
        have g := ih (k + 1) yn ys yk bz bw bn bf bc bd be (by omega) (by omega) I2 (fun _ => k2)
        rw [e] at g
        exact br_f (nI_ge h (by omega)) (nm_r (nI_1 k) g)
      · have e : pp_bs (pp_S n m S W) (k + 1) = pp_bs (pp_S n m S W) k := if_neg h
        have g := ih (k + 1) yn ys yk bz bw bn bf bc bd be (by omega) (by omega) I2 (fun _ => k2)
        rw [e] at g
        exact br_t (nI_le (by omega) (by omega)) (nm_r (nI_1 k) g)
  obtain ⟨yn, ys, yk, bz, bw, bn, bf, bc, bd, be⟩ := v
  have u1 := pp_U1 (n := n)
  have g := aux (pp_U n - 1) 1 yn ys yk bz bw bn bf bc bd be (by omega) (by omega) I id
  have e : pp_bs (pp_S n m S W) 1 = 0 := if_neg (Nat.lt_irrefl _)
  rw [e] at g
  exact Exists.intro _ g
theorem py_bb {n m : Nat} {S W : Nat → Nat} (p : pp_par n m S W) : pp_bs (pp_S n m S W) (pp_U n) < pp_U n ∧ pp_S n m S W (pp_bs (pp_S n m S W) (pp_U n)) ≤ 360 := by
  have B := (pp_bsI (pp_S n m S W) (pp_U n) pp_U1).1
  exact ⟨B, pp_Sb p.1 p.2.1 p.2.2.2.1 p.2.2.2.2.2 B⟩
theorem py_least {post : Int32 → SY → Prop} {n m : Nat} {S W : Nat → Nat} {v : SY} (p : pp_par n m S W) (I : py_I n m S W v)
    (K : ∀ v', py_I n m S W v' → post (nI (pp_S n m S W (pp_bs (pp_S n m S W) (pp_U n)))) v') : wpY_least post v := by
  obtain ⟨yn, ys, yk, bz, bw, bn, bf, bc, bd, be⟩ := v
  unfold wpY_least
  dsimp only
  refine py_best p I ?_
  intro v1 I1 _
  obtain ⟨yn, ys, yk, bz, bw, bn, bf, bc, bd, be⟩ := v1
  dsimp only
  refine py_sco p I1 (py_bb p).1 ?_
  intro v2 I2 _
  obtain ⟨yn, ys, yk, bz, bw, bn, bf, bc, bd, be⟩ := v2
  exact K _ I2
theorem pp_cnt (q : Nat → Bool) (k : Nat) : (List.range (k + 1)).countP q = (List.range k).countP q + (if q k = true then 1 else 0) := by
  rw [List.range_succ, List.countP_append, List.countP_singleton]
theorem pp_cntb (q : Nat → Bool) (k : Nat) : (List.range k).countP q ≤ k := by
  have := List.countP_le_length (p := q) (l := List.range k)
  rw [List.length_range] at this
  exact this
theorem pp_cntx {q r : Nat → Bool} {k : Nat} (h : ∀ x, x < k → q x = r x) : (List.range k).countP q = (List.range k).countP r := by
  refine List.countP_congr fun x hx => ?_
  rw [h x (List.mem_range.mp hx)]
/-- within: a bound below nought -/
theorem py_wiN {post : Int32 → SY → Prop} {n m : Nat} {S W : Nat → Nat} {v : SY} {q : Int32} (p : pp_par n m S W) (I : py_I n m S W v) (hq : q < 0)
    (K : ∀ v', py_I n m S W v' → post 0 v') : wpY_within post v q := by
  have x105 := pp_U105 p.1 p.2.1
  have aux : ∀ (l : Int32) d k yn ys yk bz bw bn bf bc bd be, k + d = pp_U n → py_I n m S W (yn, ys, yk, bz, bw, bn, bf, bc, bd, be) → wY_within_10 post q l (d + 1) 0 (nI k) yn ys yk bz bw bn bf bc bd be := by
    intro l d
    induction d with
    | zero =>
      intro k yn ys yk bz bw bn bf bc bd be hk I
      have e : k = pp_U n := by omega
      subst e
      unfold wY_within_10
      refine py_tr p.1 p.2.1 I.1 ?_
      exact br_t (nI_le (Nat.le_refl _) (by omega)) (K _ I)
    | succ d ih =>
      intro k yn ys yk bz bw bn bf bc bd be hk I
      unfold wY_within_10
      refine py_tr p.1 p.2.1 I.1 ?_
      exact br_f (nI_ge (by omega) (by omega)) (br_t hq (nm_r (nI_1 k) (ih (k + 1) _ _ _ _ _ _ _ _ _ _ (by omega) I)))
  obtain ⟨yn, ys, yk, bz, bw, bn, bf, bc, bd, be⟩ := v
  unfold wpY_within
  dsimp only
  refine py_least p I ?_
  intro v1 I1
  obtain ⟨yn, ys, yk, bz, bw, bn, bf, bc, bd, be⟩ := v1
  exact Exists.intro (pp_U n + 1) (aux _ (pp_U n) 0 _ _ _ _ _ _ _ _ _ _ (by omega) I1)
theorem py_wi {post : Int32 → SY → Prop} {n m q : Nat} {S W : Nat → Nat} {v : SY} (p : pp_par n m S W) (I : py_I n m S W v) (hq : q < 2 ^ 31)
    (K : ∀ v', py_I n m S W v' → post (nI ((List.range (pp_U n)).countP (fun x => decide (pp_S n m S W x ≤ pp_S n m S W (pp_bs (pp_S n m S W) (pp_U n)) + q)))) v') : wpY_within post v (nI q) := by
  have x105 := pp_U105 p.1 p.2.1
  have B := pp_bsI (pp_S n m S W) (pp_U n) pp_U1
  have bb := py_bb p
  have aux : ∀ d k yn ys yk bz bw bn bf bc bd be, k + d = pp_U n → py_I n m S W (yn, ys, yk, bz, bw, bn, bf, bc, bd, be) →
      wY_within_10 post (nI q) (nI (pp_S n m S W (pp_bs (pp_S n m S W) (pp_U n)))) (d + 1) (nI ((List.range k).countP (fun x => decide (pp_S n m S W x ≤ pp_S n m S W (pp_bs (pp_S n m S W) (pp_U n)) + q)))) (nI k) yn ys yk bz bw bn bf bc bd be := by
    intro d
    induction d with
    | zero =>
      intro k yn ys yk bz bw bn bf bc bd be hk I
      have e : k = pp_U n := by omega
      subst e
      unfold wY_within_10
      refine py_tr p.1 p.2.1 I.1 ?_
      exact br_t (nI_le (Nat.le_refl _) (by omega)) (K _ I)
    | succ d ih =>
      intro k yn ys yk bz bw bn bf bc bd be hk I
      have s1 := pp_Sb (m := m) (S := S) (W := W) p.1 p.2.1 p.2.2.2.1 p.2.2.2.2.2 (x := k) (by omega)
      have b2 := (B.2 k (by omega)).1
      unfold wY_within_10
      refine py_tr p.1 p.2.1 I.1 ?_
      refine br_f (nI_ge (by omega) (by omega)) (br_f (nI_pos hq) ?_)
      refine py_sco p I (by omega) ?_
      intro v1 I1 _
      obtain ⟨yn, ys, yk, bz, bw, bn, bf, bc, bd, be⟩ := v1
      dsimp only
      have g := ih (k + 1) yn ys yk bz bw bn bf bc bd be (by omega) I1
      rw [pp_cnt] at g
      rw [pk_sub b2]
      by_cases h : pp_S n m S W k ≤ pp_S n m S W (pp_bs (pp_S n m S W) (pp_U n)) + q
      · rw [decide_eq_true h, if_pos rfl] at g
        exact br_f (nI_nlt (by omega) hq) (nm_r (nI_1 _) (nm_r (nI_1 k) g))
      · rw [decide_eq_false h, if_neg Bool.false_ne_true] at g
        exact br_t (nI_lt (by omega) (by omega)) (nm_r (nI_1 k) g)
  obtain ⟨yn, ys, yk, bz, bw, bn, bf, bc, bd, be⟩ := v
  unfold wpY_within
  dsimp only
  refine py_least p I ?_
  intro v1 I1
  obtain ⟨yn, ys, yk, bz, bw, bn, bf, bc, bd, be⟩ := v1
  exact Exists.intro (pp_U n + 1) (aux (pp_U n) 0 _ _ _ _ _ _ _ _ _ _ (by omega) I1)
/-! behind, separates, support -/
theorem pp_on0 (n c d v : Nat) : pp_on n c d 0 v = false := by
  cases d with
  | zero => rfl
  | succ d => rfl
theorem pp_o9 {n c v t : Nat} (k : pp_ok n c) (hv : v < 10) (ht : t < n) : pp_on n c 10 t v = pp_on n c 9 t v :=
  of_decide_eq_true (pp_alE (pp_al3 (p := fun n c v => pp_al 6 (fun t => decide (t < n → pp_on n c 10 t v = pp_on n c 9 t v))) (by decide +kernel) k hv) (by omega : t < 6)) ht
section PY4
variable {yn ys yk : Int32} {bz bw bn bf bc bd be : Nat → Int32}
theorem py_b18 {post : Int32 → Prop} {J4 : Int32 → Int32 → Prop} {n c e t : Nat} (k : pp_ok n c) (hn : yn = nI n) (B : py_BA n c bn bf) (he : e < 2 * n - 3) (ht : t < n) :
    ∀ d i x M, (x = 0 ∨ pp_nd n x) → i + d = 9 → J4 (nI (if pp_on n c d x (pp_Lo n c e) = true then M ||| 2 ^ t else M)) (nI (t + 1)) → wY_behind_18 post J4 (nI e) (nI t) yn ys yk bz bw bn bf bc bd be (d + 1) (nI M) (nI x) (nI i) := by
  have k3 := k.1
  have k6 := k.2.1
  have L := pp_ed k he
  intro d
  induction d with
  | zero =>
    intro i x M hx hi h
    have e9 : i = 9 := by omega
    subst e9
    exact br_t (nI_le (a := 9) (b := 9) (Nat.le_refl _) (by decide)) (nm_r (nI_1 t) h)
  | succ d ih =>
    intro i x M hx hi h
    refine br_f (nI_ge (b := 9) (by omega) (by decide)) ?_
    rcases hx with rfl | hx
    · refine py_et0 k hn B ?_
      refine br_f (fun z => absurd (show nI e < 0 by rw [← z]; decide) (nI_pos (by omega))) (br_t (by decide) (nm_r (nI_1 i) (ih (i + 1) 0 M (Or.inl rfl) (by omega) ?_)))
      rw [pp_on0] at h ⊢
      exact h
    · have x0 : ¬ x = 0 := by omega
      have g := pp_no2 k hx
      have N := pp_no k hx
      have hP : pp_P n c x = 0 ∨ pp_nd n (pp_P n c x) := by
        rcases N.1 with z | z
        · exact Or.inl z
        · exact Or.inr (Or.inr z)
      have eo : pp_on n c (d + 1) x (pp_Lo n c e) = (x == pp_Lo n c e || pp_on n c d (pp_P n c x) (pp_Lo n c e)) := if_neg x0
      rw [eo] at h
      have near : bn (nI (pp_E n c x)).toNatClampNeg = nI (pp_P n c x) := by rw [nI_clamp (by omega), (B _ g.2.2.1).2, g.2.2.2.1]
      have iE : vp_in (nI (pp_E n c x)) 9 := vp_in_nI (by omega) (by decide)
      refine py_et k hn B hx ?_
      by_cases ex : x = pp_Lo n c e
      · have eE : pp_E n c x = e := by rw [ex]; exact L.2
        refine br_t (congrArg nI eE) (nm_r (e' := nI (M ||| 2 ^ t)) (by rw [px_bit t (by omega), px_or]) (br_f (nI_pos (by omega)) (And.intro iE (nm_r near (nm_r (nI_1 i) (ih (i + 1) (pp_P n c x) (M ||| 2 ^ t) hP (by omega) ?_))))))
        have e1 : (x == pp_Lo n c e) = true := by rw [← ex]; exact beq_self_eq_true x
        rw [e1, Bool.true_or, if_pos rfl] at h
        rw [Nat.or_assoc, Nat.or_self, ite_self]
        exact h
      · have eE : ¬ pp_E n c x = e := by
          intro z
          apply ex
          rw [← g.2.2.2.1, z]
        refine br_f (by rw [nI_eq (by omega) (by omega)]; exact eE) (br_f (nI_pos (by omega)) (And.intro iE (nm_r near (nm_r (nI_1 i) (ih (i + 1) (pp_P n c x) M hP (by omega) ?_)))))
        rw [beq_false_of_ne ex, Bool.false_or] at h
        exact h
theorem py_bh {post : Int32 → Prop} {n c e : Nat} (k : pp_ok n c) (hn : yn = nI n) (B : py_BA n c bn bf) (he : e < 2 * n - 3) (h : post (nI (pp_bm n c n (pp_Lo n c e)))) : wpY_behind post (yn, ys, yk, bz, bw, bn, bf, bc, bd, be) (nI e) := by
  have k3 := k.1
  have k6 := k.2.1
  have L := pp_ed k he
  have aux : ∀ d t, 1 ≤ t → t + d = n → wY_behind_4 post (nI e) yn ys yk bz bw bn bf bc bd be (d + 1) (nI (pp_bm n c t (pp_Lo n c e))) (nI t) := by
    intro d
    induction d with
    | zero =>
      intro t h1 ht
      have et : t = n := by omega
      subst et
      exact br_t (by rw [hn]; exact nI_le (Nat.le_refl _) (by omega)) h
    | succ d ih =>
      intro t h1 ht
      refine br_f (by rw [hn]; exact nI_ge (by omega) (by omega)) (Exists.intro 10 ?_)
      refine py_b18 k hn B he (by omega) 9 0 t _ (Or.inr (Or.inl (by omega))) (by omega) ?_
      rw [← pp_o9 k (by omega) (by omega)]
      exact ih (t + 1) (by omega) (by omega)
  exact Exists.intro n (by
    have g := aux (n - 1) 1 (by omega) (by omega)
    rw [show n - 1 + 1 = n from by omega] at g
    exact g)
theorem py_sep {post : Int32 → SY → Prop} {n c sp : Nat} (k : pp_ok n c) (hn : yn = nI n) (hs : sp ≤ 2 ^ n - 1)
    (K : ∀ nr fr : Nat → Int32, post (if pp_hs n c sp = true then 1 else 0) (yn, ys, yk, bz, bw, nr, fr, bc, bd, be)) : wpY_separates post (yn, ys, yk, bz, bw, bn, bf, bc, bd, be) (nI c) (nI sp) := by
  have k3 := k.1
  have k6 := k.2.1
  have h64 : 2 ^ n ≤ 2 ^ 6 := Nat.pow_le_pow_right (by omega) k6
  have e3 : 2 * yn - 3 = nI (2 * n - 3) := by rw [hn]; exact px_e23 k3
  have aux : ∀ (bn bf : Nat → Int32), py_BA n c bn bf → ∀ d e, e + d = 2 * n - 3 → (∀ j, j < e → ¬ pp_mt n c sp (pp_Lo n c j)) → wY_separates_17 post (nI sp) (nI (2 ^ n - 1)) yn ys yk bz bw bn bf bc bd be (d + 1) (nI e) := by
    intro bn bf B d
    induction d with
    | zero =>
      intro e he hF
      have ee : e = 2 * n - 3 := by omega
      subst ee
      have K := K bn bf
      rw [pp_hsF (fun v hv z => by
        have g := pp_no2 k hv
        have := hF _ g.2.2.1
        rw [g.2.2.2.1] at this
        exact this z)] at K
      exact br_t (by rw [e3]; exact nI_le (Nat.le_refl _) (by omega)) K
    | succ d ih =>
      intro e he hF
      have hl : e < 2 * n - 3 := by omega
      have L := pp_ed k hl
      have bb := pp_bmb n c n (pp_Lo n c e)
      refine br_f (by rw [e3]; exact nI_ge (by omega) (by omega)) ?_
      refine py_bh k hn B hl ?_
      have K := K bn bf
      by_cases c1 : pp_bm n c n (pp_Lo n c e) = sp
      · rw [pp_hsT k6 L.1 (Or.inl c1)] at K
        exact br_t (congrArg nI c1) K
      · refine br_f (by rw [nI_eq (by omega) (by omega)]; exact c1) ?_
        have es : nI (2 ^ n - 1) - nI sp = nI (2 ^ n - 1 - sp) := pk_sub hs
        by_cases c2 : pp_bm n c n (pp_Lo n c e) = 2 ^ n - 1 - sp
        · rw [pp_hsT k6 L.1 (Or.inr c2)] at K
          exact br_t (by rw [es, c2]) K
        · refine br_f (by rw [es, nI_eq (by omega) (by omega)]; exact c2) (nm_r (nI_1 e) (ih (e + 1) (by omega) fun j hj z => ?_))
          by_cases ej : j = e
          · subst ej
            rcases z with z | z
            · exact c1 z
            · exact c2 z
          · exact hF j (by omega) z
  unfold wpY_separates
  dsimp only
  refine py_bld k hn ?_
  intro nr fr B
  have eb : (1 : Int32) <<< (yn &&& 31) - 1 = nI (2 ^ n - 1) := by
    rw [hn, px_bit n (by omega)]
    exact pk_sub (a := 2 ^ n) (b := 1) (Nat.two_pow_pos n)
  exact nm_r eb (Exists.intro (2 * n - 3 + 1) (aux nr fr B (2 * n - 3) 0 (by omega) (fun j hj => absurd hj (by omega))))
end PY4
/-- the trees of the least score that hold the split -/
def pp_sup (n m : Nat) (S W : Nat → Nat) (sp x : Nat) : Bool := decide (pp_S n m S W x ≤ pp_S n m S W (pp_bs (pp_S n m S W) (pp_U n))) && px_hb n sp x
theorem py_all {n : Nat} {x : Int32} (h6 : n ≤ 6) (h : x = nI n) : (1 : Int32) <<< (x &&& 31) - 1 = nI (2 ^ n - 1) := by
  rw [h, px_bit n (by omega)]
  exact pk_sub (a := 2 ^ n) (b := 1) (Nat.two_pow_pos n)
theorem py_msk {n : Nat} (h6 : n ≤ 6) (x : Int32) : x &&& nI (2 ^ n - 1) = nI (x.toBitVec.toNat % 2 ^ n) := by
  have h64 : 2 ^ n ≤ 2 ^ 6 := Nat.pow_le_pow_right (by omega) h6
  exact pk_and x n (pk_tn (by omega))
theorem py_su {post : Int32 → SY → Prop} {n m sp : Nat} {S W : Nat → Nat} {v : SY} {q : Int32} (p : pp_par n m S W) (I : py_I n m S W v) (hq : q &&& nI (2 ^ n - 1) = nI sp) (h1 : 0 < sp) (h2 : sp < 2 ^ n - 1)
    (K : ∀ v', py_I n m S W v' → post (nI ((List.range (pp_U n)).countP (pp_sup n m S W sp))) v') : wpY_support post v q := by
  have x105 := pp_U105 p.1 p.2.1
  have B := pp_bsI (pp_S n m S W) (pp_U n) pp_U1
  have bb := py_bb p
  have aux : ∀ d k yn ys yk bz bw bn bf bc bd be, k + d = pp_U n → py_I n m S W (yn, ys, yk, bz, bw, bn, bf, bc, bd, be) →
      wY_support_36 post (nI sp) (nI (pp_S n m S W (pp_bs (pp_S n m S W) (pp_U n)))) (d + 1) (nI ((List.range k).countP (pp_sup n m S W sp))) (nI k) yn ys yk bz bw bn bf bc bd be := by
    intro d
    induction d with
    | zero =>
      intro k yn ys yk bz bw bn bf bc bd be hk I
      have e : k = pp_U n := by omega
      subst e
      unfold wY_support_36
      refine py_tr p.1 p.2.1 I.1 ?_
      exact br_t (nI_le (Nat.le_refl _) (by omega)) (K _ I)
    | succ d ih =>
      intro k yn ys yk bz bw bn bf bc bd be hk I
      have kk : pp_ok n k := ⟨p.1, p.2.1, by omega⟩
      have s1 := pp_Sb (m := m) (S := S) (W := W) p.1 p.2.1 p.2.2.2.1 p.2.2.2.2.2 (x := k) (by omega)
      have b2 := (B.2 k (by omega)).1
      unfold wY_support_36
      refine py_tr p.1 p.2.1 I.1 ?_
      refine br_f (nI_ge (by omega) (by omega)) ?_
      refine py_sco p I (by omega) ?_
      intro v1 I1 _
      obtain ⟨yn, ys, yk, bz, bw, bn, bf, bc, bd, be⟩ := v1
      dsimp only
      have eh : px_hb n sp k = pp_hs n k sp := by unfold px_hb; rw [decide_eq_true h1, Bool.true_and]
      by_cases h : pp_S n m S W k = pp_S n m S W (pp_bs (pp_S n m S W) (pp_U n))
      · refine br_t (congrArg nI h) ?_
        refine py_sep kk I1.1 (by omega) ?_
        intro nr fr
        dsimp only
        have g := ih (k + 1) yn ys yk bz bw nr fr bc bd be (by omega) I1
        have ek : pp_sup n m S W sp k = pp_hs n k sp := by unfold pp_sup; rw [decide_eq_true (by omega), Bool.true_and, eh]
        rw [pp_cnt, ek] at g
        cases hb : pp_hs n k sp with
        | true =>
          rw [hb, if_pos rfl] at g
          rw [if_pos rfl]
          exact br_f (by decide) (nm_r (nI_1 _) (nm_r (nI_1 k) g))
        | false =>
          rw [hb, if_neg Bool.false_ne_true] at g
          rw [if_neg Bool.false_ne_true]
          exact br_t rfl (nm_r (nI_1 k) g)
      · have g := ih (k + 1) yn ys yk bz bw bn bf bc bd be (by omega) I1
        have ek : pp_sup n m S W sp k = false := by unfold pp_sup; rw [decide_eq_false (by omega), Bool.false_and]
        rw [pp_cnt, ek, if_neg Bool.false_ne_true] at g
        exact br_f (by rw [nI_eq (by omega) (by omega)]; exact h) (nm_r (nI_1 k) g)
  obtain ⟨yn, ys, yk, bz, bw, bn, bf, bc, bd, be⟩ := v
  have h64 : 2 ^ n ≤ 2 ^ 6 := Nat.pow_le_pow_right (by omega) p.2.1
  refine nm_r (py_all p.2.1 I.1) (nm_r hq (br_f (nI_ne0 h1 (by omega)) (br_f (by rw [nI_eq (by omega) (by omega)]; omega) ?_)))
  refine py_least p I ?_
  intro v1 I1
  obtain ⟨yn, ys, yk, bz, bw, bn, bf, bc, bd, be⟩ := v1
  exact Exists.intro (pp_U n + 1) (aux (pp_U n) 0 _ _ _ _ _ _ _ _ _ _ (by omega) I1)
/-! siteLeast, changes -/
def pp_W1 (W : Nat → Nat) (g s : Nat) : Nat := if s = g then W s else 0
theorem pp_sc0 {n x g : Nat} {S W : Nat → Nat} : ∀ m, m ≤ g → pp_sc n x S (pp_W1 W g) m = 0 := by
  intro m
  induction m with
  | zero => intro _; rfl
  | succ s ih =>
    intro h
    have e : pp_W1 W g s = 0 := if_neg (by omega)
    unfold pp_sc
    rw [ih (by omega), e, Nat.zero_mul]
theorem pp_sc1 {n x g : Nat} {S W : Nat → Nat} : ∀ m, g < m → pp_sc n x S (pp_W1 W g) m = W g * pp_N n x (pp_sat S g) := by
  intro m
  induction m with
  | zero => intro h; omega
  | succ s ih =>
    intro h
    unfold pp_sc
    by_cases e : s = g
    · subst e
      have e1 : pp_W1 W s s = W s := if_pos rfl
      rw [pp_sc0 s (Nat.le_refl _), e1, Nat.zero_add]
    · have e1 : pp_W1 W g s = 0 := if_neg e
      rw [ih (by omega), e1, Nat.zero_mul, Nat.add_zero]
def pp_mn (sc : Nat → Nat) : Nat → Nat
  | 0 => 1000
  | k + 1 => if pp_mn sc k ≤ sc k then pp_mn sc k else sc k
theorem pp_mnb {sc : Nat → Nat} {N : Nat} (h : ∀ x, x < N → sc x < 1000) : ∀ k, 1 ≤ k → k ≤ N → pp_mn sc k = sc (pp_bs sc k) := by
  intro k
  induction k with
  | zero => intro h; omega
  | succ k ih =>
    intro _ hk
    by_cases h0 : k = 0
    · subst h0
      have e : pp_bs sc 1 = 0 := if_neg (Nat.lt_irrefl _)
      rw [e]
      have := h 0 (by omega)
      exact if_neg (by show ¬ 1000 ≤ sc 0; omega)
    · have e := ih (by omega) (by omega)
      show (if pp_mn sc k ≤ sc k then pp_mn sc k else sc k) = _
      rw [e]
      by_cases c : sc k < sc (pp_bs sc k)
      · have e2 : pp_bs sc (k + 1) = k := if_pos c
        rw [e2, if_neg (by omega)]
      · have e2 : pp_bs sc (k + 1) = pp_bs sc k := if_neg c
        rw [e2, if_pos (by omega)]
theorem pp_mn1 (sc : Nat → Nat) : ∀ k, pp_mn sc k ≤ 1000 := by
  intro k
  induction k with
  | zero => exact Nat.le_refl _
  | succ k ih =>
    show (if pp_mn sc k ≤ sc k then pp_mn sc k else sc k) ≤ 1000
    split <;> omega
theorem pp_W19 {W : Nat → Nat} {g : Nat} (h : ∀ s, s < 8 → W s ≤ 9) : ∀ s, s < 8 → pp_W1 W g s ≤ 9 := by
  intro s hs
  unfold pp_W1
  have := h s hs
  split <;> omega
theorem py_bad {post : Int32 → Prop} {yn ys yk : Int32} {bz bw bn bf bc bd be : Nat → Int32} {q : Int32} (h : q < 0 ∨ ¬ q < ys) (hp : post 1) : wpY_badSite post (yn, ys, yk, bz, bw, bn, bf, bc, bd, be) q := by
  by_cases c : q < 0
  · exact br_t c hp
  · exact br_f c (br_f (h.resolve_left c) hp)
theorem py_good {post : Int32 → Prop} {yn ys yk : Int32} {bz bw bn bf bc bd be : Nat → Int32} {q : Int32} (h1 : ¬ q < 0) (h2 : q < ys) (hp : post 0) : wpY_badSite post (yn, ys, yk, bz, bw, bn, bf, bc, bd, be) q := br_f h1 (br_t h2 hp)
theorem py_sl {post : Int32 → SY → Prop} {n m g : Nat} {S W : Nat → Nat} {v : SY} (p : pp_par n m S W) (I : py_I n m S W v) (hg : g < m)
    (K : ∀ v', py_I n m S W v' → post (nI (pp_S n m S (pp_W1 W g) (pp_bs (pp_S n m S (pp_W1 W g)) (pp_U n)))) v') :
    wpY_siteLeast post v (nI g) := by
  have x105 := pp_U105 p.1 p.2.1
  have m8 := p.2.2.2.1
  have sb : ∀ x, x < pp_U n → pp_S n m S (pp_W1 W g) x ≤ 360 := fun x hx => pp_Sb p.1 p.2.1 p.2.2.2.1 (pp_W19 p.2.2.2.2.2) hx
  have mb := pp_mnb (sc := pp_S n m S (pp_W1 W g)) (N := pp_U n) (fun x hx => by have := sb x hx; omega) (pp_U n) pp_U1 (Nat.le_refl _)
  have aux : ∀ yn ys yk bz bw bn bf bc bd be, py_I n m S W (yn, ys, yk, bz, bw, bn, bf, bc, bd, be) → ¬ yk = 0 → ∀ d k, k + d = pp_U n → wY_siteLeast_21 post (nI g) yn ys yk bz bw bn bf bc bd be (d + 1) (nI (pp_mn (pp_S n m S (pp_W1 W g)) k)) (nI k) := by
    intro yn ys yk bz bw bn bf bc bd be I hk d
    induction d with
    | zero =>
      intro k hd
      have e : k = pp_U n := by omega
      subst e
      unfold wY_siteLeast_21
      refine py_tr p.1 p.2.1 I.1 ?_
      refine br_t (nI_le (Nat.le_refl _) (by omega)) ?_
      rw [mb]
      exact K _ I
    | succ d ih =>
      intro k hd
      have e8 := px_n8 k g
      have i1 := pk_in (k * 8 + g) 840 (by omega) e8
      have i2 : vp_in (nI g) 8 := vp_in_nI (by omega) (by decide)
      have s1 := sb k (by omega)
      have m1 := pp_mn1 (pp_S n m S (pp_W1 W g)) k
      have ev : be (nI k * 8 + nI g).toNatClampNeg * bw (nI g).toNatClampNeg = nI (pp_S n m S (pp_W1 W g) k) := by
        rw [pk_cl (k * 8 + g) e8, nI_clamp (by omega), I.2.2.2.2 hk k (by omega) g hg, I.2.2.2.1 g (by omega), pk_mul, Nat.mul_comm]
        unfold pp_S
        rw [pp_sc1 m hg]
      have h := ih (k + 1) (by omega)
      have e1 : pp_mn (pp_S n m S (pp_W1 W g)) (k + 1) = if pp_mn (pp_S n m S (pp_W1 W g)) k ≤ pp_S n m S (pp_W1 W g) k then pp_mn (pp_S n m S (pp_W1 W g)) k else pp_S n m S (pp_W1 W g) k := rfl
      rw [e1] at h
      unfold wY_siteLeast_21
      refine py_tr p.1 p.2.1 I.1 ?_
      refine br_f (nI_ge (by omega) (by omega)) (And.intro i1 (And.intro i2 ?_))
      by_cases c : pp_mn (pp_S n m S (pp_W1 W g)) k ≤ pp_S n m S (pp_W1 W g) k
      · rw [if_pos c] at h
        exact br_t (by rw [ev]; exact nI_le c (by omega)) (nm_r (nI_1 k) h)
      · rw [if_neg c] at h
        exact br_f (by rw [ev]; exact nI_ge (by omega) (by omega)) (And.intro i1 (And.intro i2 (nm_r ev (nm_r (nI_1 k) h))))
  obtain ⟨yn, ys, yk, bz, bw, bn, bf, bc, bd, be⟩ := v
  obtain ⟨i1, i2, i3, i4, i5⟩ := I
  unfold wpY_siteLeast
  dsimp only
  refine py_good (nI_pos (by omega)) (by rw [i2]; exact nI_lt hg (by omega)) (br_t rfl ?_)
  refine py_wo p.1 p.2.1 i1 i2 p.2.2.2.1 p.2.2.2.2.1 i3 i5 ?_
  intro kk nr fr co dd ne h hk
  exact Exists.intro (pp_U n + 1) (aux _ _ _ _ _ _ _ _ _ _ ⟨i1, i2, i3, i4, fun _ => h⟩ hk (pp_U n) 0 (by omega))
theorem py_cg {post : Int32 → SY → Prop} {n m g : Nat} {S W : Nat → Nat} {v : SY} (p : pp_par n m S W) (I : py_I n m S W v) (hg : g < m)
    (K : ∀ v', py_I n m S W v' → post (nI (pp_N n (pp_bs (pp_S n m S W) (pp_U n)) (pp_sat S g))) v') :
    wpY_changes post v (nI g) := by
  have x105 := pp_U105 p.1 p.2.1
  have m8 := p.2.2.2.1
  have bb := py_bb p
  obtain ⟨yn, ys, yk, bz, bw, bn, bf, bc, bd, be⟩ := v
  obtain ⟨i1, i2, i3, i4, i5⟩ := I
  unfold wpY_changes
  dsimp only
  refine py_good (nI_pos (by omega)) (by rw [i2]; exact nI_lt hg (by omega)) (br_t rfl ?_)
  refine py_wo p.1 p.2.1 i1 i2 p.2.2.2.1 p.2.2.2.2.1 i3 i5 ?_
  intro kk nr fr co dd ne h hk
  refine py_best p (⟨i1, i2, i3, i4, fun _ => h⟩ : py_I n m S W (yn, ys, kk, bz, bw, nr, fr, co, dd, ne)) ?_
  intro v1 I1 k1
  obtain ⟨yn, ys, yk, bz, bw, bn, bf, bc, bd, be⟩ := v1
  have k1 : ¬ yk = 0 := k1 hk
  have e8 := px_n8 (pp_bs (pp_S n m S W) (pp_U n)) g
  refine And.intro (pk_in _ 840 (by omega) e8) ?_
  dsimp only
  rw [pk_cl _ e8, I1.2.2.2.2 k1 _ bb.1 g hg]
  exact K _ I1
end
section
/-! the component's questions -/
def px_I (n m : Nat) (S W : Nat → Nat) (u : SX) : Prop := match u with
  | (xtx, xst, xos, xrc, xlm, xtg, xsp, xft, xfs, xsm, xfr, xls, xbc, aw, az, ac, ap, al, ar, ao, ah, ab) => xtx = nI n ∧ xst = nI m ∧ xos = -1 ∧ (∀ i, i < 48 → az i = nI (S i)) ∧ (∀ s, s < 8 → aw s = nI (W s)) ∧
    (¬ xfr = 0 → xls = nI (pp_S n m S W (pp_bs (pp_S n m S W) (pp_U n))) ∧ xbc = nI (pp_bs (pp_S n m S W) (pp_U n)))
section PX7
variable {xtx xst xos xrc xlm xtg xsp xft xfs xsm xfr xls xbc : Int32} {aw az ac ap al ar ao ah ab : Nat → Int32}
theorem px_bad {post : Int32 → Prop} {q : Int32} (h : q < 0 ∨ ¬ q < xst) (hp : post 1) : wpX_badSite post (xtx, xst, xos, xrc, xlm, xtg, xsp, xft, xfs, xsm, xfr, xls, xbc, aw, az, ac, ap, al, ar, ao, ah, ab) q := by
  by_cases c : q < 0
  · exact br_t c hp
  · exact br_f c (br_f (h.resolve_left c) hp)
theorem px_good {post : Int32 → Prop} {q : Int32} (h1 : ¬ q < 0) (h2 : q < xst) (hp : post 0) : wpX_badSite post (xtx, xst, xos, xrc, xlm, xtg, xsp, xft, xfs, xsm, xfr, xls, xbc, aw, az, ac, ap, al, ar, ao, ah, ab) q := br_f h1 (br_t h2 hp)
theorem px_trs {post : Int32 → Prop} {n : Nat} (h3 : 3 ≤ n) (h6 : n ≤ 6) (hn : xtx = nI n) (h : post (nI (pp_U n))) : wpX_trees post (xtx, xst, xos, xrc, xlm, xtg, xsp, xft, xfs, xsm, xfr, xls, xbc, aw, az, ac, ap, al, ar, ao, ah, ab) := by
  have aux : ∀ d t, 3 ≤ t → t + d = n → wX_trees_4 post xtx xst xos xrc xlm xtg xsp xft xfs xsm xfr xls xbc aw az ac ap al ar ao ah ab (d + 1) (nI (pp_U t)) (nI t) := by
    intro d
    induction d with
    | zero =>
      intro t t3 ht
      have e : t = n := by omega
      subst e
      exact br_t (by rw [hn]; exact nI_le (Nat.le_refl _) (by omega)) h
    | succ d ih =>
      intro t t3 ht
      exact br_f (by rw [hn]; exact nI_ge (by omega) (by omega)) (nm_r (e' := nI (pp_U (t + 1))) (by rw [px_e23 t3, pk_mul, (px_cst (x := 0) t3 (by omega)).2]) (nm_r (nI_1 t) (ih (t + 1) (by omega) (by omega))))
  exact Exists.intro (n - 3 + 1) (aux (n - 3) 3 (by omega) (by omega))
/-- changes, counted from the root on -/
def pp_cs (t c : Nat) (S : Nat → Nat) : Nat → Nat
  | 0 => pp_rz (pp_fv t c S (pp_Rc t c)) (S 0)
  | j + 1 => pp_cs t c S j + pp_cu t c S (6 + j)
theorem pp_cs4 {t c : Nat} {S : Nat → Nat} (k : pp_ok t c) : pp_cs t c S (t - 2) = pp_N t c S := by
  obtain ⟨k1, k2, k3⟩ := k
  rw [pp_Ns ⟨k1, k2, k3⟩]
  have z : ∀ u, t + 4 ≤ u → pp_cu t c S u = 0 := fun u hu => if_neg (by omega)
  rcases (by omega : t = 3 ∨ t = 4 ∨ t = 5 ∨ t = 6) with rfl | rfl | rfl | rfl
  · rw [z 7 (by omega), z 8 (by omega), z 9 (by omega)]; rfl
  · rw [z 8 (by omega), z 9 (by omega)]; rfl
  · rw [z 9 (by omega)]; rfl
  · rfl
theorem pp_csb {t c : Nat} {S : Nat → Nat} : ∀ j, pp_cs t c S j ≤ 1 + j := by
  intro j
  induction j with
  | zero => exact pp_rz1 _ _
  | succ j ih =>
    have := pp_cu1 t c S (6 + j)
    unfold pp_cs
    omega
theorem px_c56 {post : Int32 → SX → Prop} {n c m g : Nat} {S : Nat → Nat} (k : pp_ok n c) (hn : xtx = nI n) (hm8 : m ≤ 8) (hg : g < m) (hS : pp_SR S) (T : px_TS n c m (px_w xos aw) S xrc az ac ap al ar ao)
    (K : post (nI (pp_N n c (pp_sat S g))) (xtx, xst, xos, xrc, xlm, xtg, xsp, xft, xfs, xsm, xfr, xls, xbc, aw, az, ac, ap, al, ar, ao, ah, ab)) :
    ∀ d v, 6 ≤ v → v + d = n + 4 → wX_changes_56 post (nI g) xtx xst xos xrc xlm xtg xsp xft xfs xsm xfr xls xbc aw az ac ap al ar ao ah ab (d + 1) (nI (pp_cs n c (pp_sat S g) (v - 6))) (nI v) := by
  have k6 := k.2.1
  have e4 : xtx + 4 = nI (n + 4) := by rw [hn]; exact nI_add n 4
  have rg := pp_fr k (pp_sats hS (by omega : g < 8))
  intro d
  induction d with
  | zero =>
    intro v h6 hv
    have e : v = n + 4 := by omega
    subst e
    have ec : n + 4 - 6 = n - 2 := by omega
    rw [ec, pp_cs4 k]
    exact br_t (by rw [e4]; exact nI_le (Nat.le_refl _) (by omega)) K
  | succ d ih =>
    intro v h6 hv
    have hv' : v < n + 4 := by omega
    have f := pp_in k h6 hv'
    have C := T.1.2.2.1 v h6 hv'
    have ev : (nI v).toNatClampNeg = v := nI_clamp (by omega)
    have iv : vp_in (nI v) 10 := vp_in_nI (by omega) (by decide)
    have l10 := pp_l10 n c v
    have r10 := pp_r10 n c v
    have eL : (al (nI v).toNatClampNeg) * 8 + nI g = nI (pp_L n c v * 8 + g) := by rw [ev, C.1]; exact px_n8 _ g
    have eR : (ar (nI v).toNatClampNeg) * 8 + nI g = nI (pp_R n c v * 8 + g) := by rw [ev, C.2]; exact px_n8 _ g
    have zL : az ((al (nI v).toNatClampNeg) * 8 + nI g).toNatClampNeg = nI (pp_fv n c (pp_sat S g) (pp_L n c v)).1 := by rw [pk_cl _ eL]; exact px_zv k hm8 hS T hg _ f.1
    have zR : az ((ar (nI v).toNatClampNeg) * 8 + nI g).toNatClampNeg = nI (pp_fv n c (pp_sat S g) (pp_R n c v)).1 := by rw [pk_cl _ eR]; exact px_zv k hm8 hS T hg _ f.2.1
    have h := ih (v + 1) (by omega) (by omega)
    have e1 : v + 1 - 6 = (v - 6) + 1 := by omega
    have e2 : pp_cs n c (pp_sat S g) (v - 6 + 1) = pp_cs n c (pp_sat S g) (v - 6) + pp_cu n c (pp_sat S g) v := by
      show pp_cs n c (pp_sat S g) (v - 6) + pp_cu n c (pp_sat S g) (6 + (v - 6)) = _
      rw [show 6 + (v - 6) = v from by omega]
    have e3 : pp_cu n c (pp_sat S g) v = pp_rz (pp_fv n c (pp_sat S g) (pp_L n c v)) (pp_fv n c (pp_sat S g) (pp_R n c v)).1 := if_pos hv'
    rw [e1, e2, e3] at h
    refine br_f (by rw [e4]; exact nI_ge (by omega) (by omega)) (And.intro iv (And.intro (pk_in _ 80 (by omega) eL) (And.intro iv (And.intro (pk_in _ 80 (by omega) eR) ?_))))
    by_cases hz : (pp_fv n c (pp_sat S g) (pp_L n c v)).1 &&& (pp_fv n c (pp_sat S g) (pp_R n c v)).1 = 0
    · rw [px_rz.mp hz] at h
      exact br_t (by rw [zL, zR, px_and0 (rg _ f.1).2]; exact hz) (nm_r (nI_1 _) (nm_r (nI_1 v) h))
    · have z0 : pp_rz (pp_fv n c (pp_sat S g) (pp_L n c v)) (pp_fv n c (pp_sat S g) (pp_R n c v)).1 = 0 := if_neg hz
      rw [z0, Nat.add_zero] at h
      exact br_f (by rw [zL, zR, px_and0 (rg _ f.1).2]; exact hz) (nm_r (nI_1 v) h)
end PX7
theorem px_wm {W : Nat → Nat} {w : Nat → Int32} {m : Nat} {o : Int32} (ho : o = -1) (hm : m ≤ 8) (h : ∀ s, s < 8 → w s = nI (W s)) : ∀ s, s < m → px_w o w s = nI (W s) := by
  intro s hs
  rw [← h s (by omega), ho]
  exact if_pos (by decide)
theorem px_sco {post : Int32 → SX → Prop} {n m x : Nat} {S W : Nat → Nat} {u : SX} (p : pp_par n m S W) (I : px_I n m S W u) (hx : x < pp_U n)
    (K : ∀ u', px_I n m S W u' → post (nI (pp_S n m S W x)) u') : wpX_score post u (nI x) := by
  obtain ⟨p1, p2, p3, p4, p5, p6⟩ := p
  have x105 := pp_U105 p1 p2
  obtain ⟨xtx, xst, xos, xrc, xlm, xtg, xsp, xft, xfs, xsm, xfr, xls, xbc, aw, az, ac, ap, al, ar, ao, ah, ab⟩ := u
  obtain ⟨i1, i2, i3, i4, i5, i6⟩ := I
  unfold wpX_score
  dsimp only
  refine px_trs p1 p2 i1 (br_f (nI_pos (by omega)) (br_t (nI_lt hx (by omega)) ?_))
  refine px_bt ⟨p1, p2, hx⟩ i1 i2 p4 i4 ?_
  intro rc z co p l r o T
  dsimp only
  refine px_tot ⟨p1, p2, hx⟩ i2 p4 p5 T (px_wm i3 p4 i5) ?_
  exact K _ ⟨i1, i2, i3, T.2.2.1, i5, i6⟩
theorem px_prp {post : SX → Prop} {n m : Nat} {S W : Nat → Nat} {u : SX} (p : pp_par n m S W) (I : px_I n m S W u)
    (K : ∀ (xtx xst xos xrc xlm xtg xsp xft xfs xsm xfr : Int32) (aw az ac ap al ar ao ah ab : Nat → Int32),
      px_I n m S W (xtx, xst, xos, xrc, xlm, xtg, xsp, xft, xfs, xsm, xfr, nI (pp_S n m S W (pp_bs (pp_S n m S W) (pp_U n))), nI (pp_bs (pp_S n m S W) (pp_U n)), aw, az, ac, ap, al, ar, ao, ah, ab) → post (xtx, xst, xos, xrc, xlm, xtg, xsp, xft, xfs, xsm, xfr, nI (pp_S n m S W (pp_bs (pp_S n m S W) (pp_U n))), nI (pp_bs (pp_S n m S W) (pp_U n)), aw, az, ac, ap, al, ar, ao, ah, ab)) : wpX_prepare post u := by
  obtain ⟨p1, p2, p3, p4, p5, p6⟩ := p
  obtain ⟨xtx, xst, xos, xrc, xlm, xtg, xsp, xft, xfs, xsm, xfr, xls, xbc, aw, az, ac, ap, al, ar, ao, ah, ab⟩ := u
  obtain ⟨i1, i2, i3, i4, i5, i6⟩ := I
  refine px_prep p1 p2 i1 i2 p4 p5 i3 i5 p6 i4 i6 ?_
  intro rc lm tg sp ft fs sm fr z co p l r o h b hz
  exact K _ _ _ _ _ _ _ _ _ _ _ _ _ _ _ _ _ _ _ _ ⟨i1, i2, rfl, hz, i5, fun _ => ⟨rfl, rfl⟩⟩
theorem px_lea {post : Int32 → SX → Prop} {n m : Nat} {S W : Nat → Nat} {u : SX} (p : pp_par n m S W) (I : px_I n m S W u)
    (K : ∀ u', px_I n m S W u' → post (nI (pp_S n m S W (pp_bs (pp_S n m S W) (pp_U n)))) u') : wpX_least post u := by
  obtain ⟨xtx, xst, xos, xrc, xlm, xtg, xsp, xft, xfs, xsm, xfr, xls, xbc, aw, az, ac, ap, al, ar, ao, ah, ab⟩ := u
  unfold wpX_least
  dsimp only
  refine px_prp p I ?_
  intro xtx xst xos xrc xlm xtg xsp xft xfs xsm xfr aw az ac ap al ar ao ah ab I
  exact K _ I
theorem px_bes {post : Int32 → SX → Prop} {n m : Nat} {S W : Nat → Nat} {u : SX} (p : pp_par n m S W) (I : px_I n m S W u)
    (K : ∀ u', px_I n m S W u' → post (nI (pp_bs (pp_S n m S W) (pp_U n))) u') : wpX_bestTree post u := by
  obtain ⟨xtx, xst, xos, xrc, xlm, xtg, xsp, xft, xfs, xsm, xfr, xls, xbc, aw, az, ac, ap, al, ar, ao, ah, ab⟩ := u
  unfold wpX_bestTree
  dsimp only
  refine px_prp p I ?_
  intro xtx xst xos xrc xlm xtg xsp xft xfs xsm xfr aw az ac ap al ar ao ah ab I
  exact K _ I
theorem px_wi {post : Int32 → SX → Prop} {n m q : Nat} {S W : Nat → Nat} {u : SX} (p : pp_par n m S W) (I : px_I n m S W u) (hq : q < 2 ^ 31)
    (K : ∀ u', px_I n m S W u' → post (nI ((List.range (pp_U n)).countP (fun x => decide (pp_S n m S W x ≤ pp_S n m S W (pp_bs (pp_S n m S W) (pp_U n)) + q)))) u') : wpX_within post u (nI q) := by
  have bb := py_bb p
  obtain ⟨xtx, xst, xos, xrc, xlm, xtg, xsp, xft, xfs, xsm, xfr, xls, xbc, aw, az, ac, ap, al, ar, ao, ah, ab⟩ := u
  refine br_t (nI_pos' hq) ?_
  refine px_prp p I ?_
  intro xtx xst xos xrc xlm xtg xsp xft xfs xsm xfr aw az ac ap al ar ao ah ab I
  have go : ∀ j, j ≤ 1000000 → (∀ x, x < pp_U n → decide (pp_S n m S W x ≤ pp_S n m S W (pp_bs (pp_S n m S W) (pp_U n)) + j) = decide (pp_S n m S W x ≤ pp_S n m S W (pp_bs (pp_S n m S W) (pp_U n)) + q)) →
      wX_within_22 post (nI j) xtx xst xos xrc xlm xtg xsp xft xfs xsm xfr (nI (pp_S n m S W (pp_bs (pp_S n m S W) (pp_U n)))) (nI (pp_bs (pp_S n m S W) (pp_U n))) aw az ac ap al ar ao ah ab := by
    intro j hj hx
    obtain ⟨i1, i2, i3, i4, i5, i6⟩ := I
    unfold wX_within_22
    rw [nI_add]
    refine px_col (sp := 0) p.1 p.2.1 i1 i2 p.2.2.2.1 p.2.2.2.2.1 i3 i5 p.2.2.2.2.2 i4 (Nat.zero_le _) (by omega) ?_
    intro rc lm sm z co p l r o h b hz
    dsimp only
    rw [pp_cntx hx]
    exact K _ ⟨i1, i2, i3, hz, i5, i6⟩
  by_cases h : q ≤ 1000000
  · exact br_t (nI_le (b := 1000000) h (by decide)) (go q h (fun _ _ => rfl))
  · refine br_f (nI_ge (a := 1000000) (by omega) hq) (go 1000000 (Nat.le_refl _) ?_)
    intro x hx
    have := pp_Sb (m := m) (S := S) (W := W) p.1 p.2.1 p.2.2.2.1 p.2.2.2.2.2 hx
    rw [decide_eq_true (by omega), decide_eq_true (by omega)]
theorem px_su {post : Int32 → SX → Prop} {n m sp : Nat} {S W : Nat → Nat} {u : SX} {q : Int32} (p : pp_par n m S W) (I : px_I n m S W u) (hq : q &&& nI (2 ^ n - 1) = nI sp) (h1 : 0 < sp) (h2 : sp < 2 ^ n - 1)
    (K : ∀ u', px_I n m S W u' → post (nI ((List.range (pp_U n)).countP (pp_sup n m S W sp))) u') :
    wpX_support post u q := by
  have bb := py_bb p
  have h64 : 2 ^ n ≤ 2 ^ 6 := Nat.pow_le_pow_right (by omega) p.2.1
  obtain ⟨xtx, xst, xos, xrc, xlm, xtg, xsp, xft, xfs, xsm, xfr, xls, xbc, aw, az, ac, ap, al, ar, ao, ah, ab⟩ := u
  refine nm_r (py_all p.2.1 I.1) (nm_r hq (br_f (nI_ne0 h1 (by omega)) (br_f (by rw [nI_eq (by omega) (by omega)]; omega) ?_)))
  refine px_prp p I ?_
  intro xtx xst xos xrc xlm xtg xsp xft xfs xsm xfr aw az ac ap al ar ao ah ab I
  obtain ⟨i1, i2, i3, i4, i5, i6⟩ := I
  dsimp only
  refine px_col (sp := sp) p.1 p.2.1 i1 i2 p.2.2.2.1 p.2.2.2.2.1 i3 i5 p.2.2.2.2.2 i4 (by omega) (by omega) ?_
  intro rc lm sm z co p l r o h b hz
  exact K _ ⟨i1, i2, i3, hz, i5, i6⟩
theorem px_sl {post : Int32 → SX → Prop} {n m g : Nat} {S W : Nat → Nat} {u : SX} (p : pp_par n m S W) (I : px_I n m S W u) (hg : g < m)
    (K : ∀ u', px_I n m S W u' → post (nI (pp_S n m S (pp_W1 W g) (pp_bs (pp_S n m S (pp_W1 W g)) (pp_U n)))) u') :
    wpX_siteLeast post u (nI g) := by
  have m8 := p.2.2.2.1
  obtain ⟨xtx, xst, xos, xrc, xlm, xtg, xsp, xft, xfs, xsm, xfr, xls, xbc, aw, az, ac, ap, al, ar, ao, ah, ab⟩ := u
  obtain ⟨i1, i2, i3, i4, i5, i6⟩ := I
  unfold wpX_siteLeast
  dsimp only
  refine px_good (nI_pos (by omega)) (by rw [i2]; exact nI_lt hg (by omega)) (br_t rfl ?_)
  refine px_fl (W := pp_W1 W g) p.1 p.2.1 i1 i2 p.2.2.2.1 p.2.2.2.2.1 ?_ (pp_W19 p.2.2.2.2.2) i4 ?_
  · intro s hs
    unfold px_w pp_W1
    rw [if_neg (nI_pos (by omega))]
    by_cases e : s = g
    · rw [if_pos (by rw [e]), if_pos e]
      exact i5 s (by omega)
    · rw [if_neg (by rw [nI_eq (by omega) (by omega)]; exact fun z => e z.symm), if_neg e]
      rfl
  · intro rc ft fs z co p l r o h b hz
    exact K _ ⟨i1, i2, rfl, hz, i5, i6⟩
theorem px_cg {post : Int32 → SX → Prop} {n m g : Nat} {S W : Nat → Nat} {u : SX} (p : pp_par n m S W) (I : px_I n m S W u) (hg : g < m)
    (K : ∀ u', px_I n m S W u' → post (nI (pp_N n (pp_bs (pp_S n m S W) (pp_U n)) (pp_sat S g))) u') :
    wpX_changes post u (nI g) := by
  have bb := py_bb p
  have m8 := p.2.2.2.1
  have k : pp_ok n (pp_bs (pp_S n m S W) (pp_U n)) := ⟨p.1, p.2.1, bb.1⟩
  have rt := pp_rt k
  have rg := pp_fr k (pp_sats p.2.2.2.2.1 (by omega : g < 8))
  obtain ⟨xtx, xst, xos, xrc, xlm, xtg, xsp, xft, xfs, xsm, xfr, xls, xbc, aw, az, ac, ap, al, ar, ao, ah, ab⟩ := u
  have i2 : xst = nI m := I.2.1
  unfold wpX_changes
  dsimp only
  refine px_good (nI_pos (by omega)) (by rw [i2]; exact nI_lt hg (by omega)) (br_t rfl ?_)
  refine px_prp p I ?_
  intro xtx xst xos xrc xlm xtg xsp xft xfs xsm xfr aw az ac ap al ar ao ah ab I
  obtain ⟨i1, i2, i3, i4, i5, i6⟩ := I
  dsimp only
  refine px_bt k i1 i2 m8 i4 ?_
  intro rc z co p' l r o T
  dsimp only
  have n6 := p.2.1
  have eR : rc * 8 + nI g = nI (pp_Rc n (pp_bs (pp_S n m S W) (pp_U n)) * 8 + g) := by rw [T.1.1]; exact px_n8 _ g
  have z1 : z (rc * 8 + nI g).toNatClampNeg = nI (pp_fv n (pp_bs (pp_S n m S W) (pp_U n)) (pp_sat S g) (pp_Rc n (pp_bs (pp_S n m S W) (pp_U n)))).1 := by rw [pk_cl _ eR]; exact px_zv k m8 p.2.2.2.2.1 T hg _ (Or.inr rt.1)
  have z2 : z (nI g).toNatClampNeg = nI (pp_sat S g 0) := by
    rw [nI_clamp (by omega), T.2.2.1 g (by omega)]
    unfold pp_sat
    rw [Nat.zero_mul, Nat.zero_add]
  have fin : ∀ y : Int32, y = nI (pp_cs n (pp_bs (pp_S n m S W) (pp_U n)) (pp_sat S g) 0) → ∃ n56 : Nat, wX_changes_56 post (nI g) xtx xst xos rc xlm xtg xsp xft xfs xsm xfr (nI (pp_S n m S W (pp_bs (pp_S n m S W) (pp_U n)))) (nI (pp_bs (pp_S n m S W) (pp_U n))) aw z co p' l r o ah ab n56 y 6 := by
    intro y ey
    rw [ey]
    exact Exists.intro (n - 2 + 1) (px_c56 k i1 m8 hg p.2.2.2.2.1 T (K _ ⟨i1, i2, i3, T.2.2.1, i5, i6⟩) (n - 2) 6 (by omega) (by have := p.1; omega))
  refine And.intro (pk_in _ 80 (by omega) eR) (And.intro (vp_in_nI (by omega) (by decide)) ?_)
  by_cases hz : (pp_fv n (pp_bs (pp_S n m S W) (pp_U n)) (pp_sat S g) (pp_Rc n (pp_bs (pp_S n m S W) (pp_U n)))).1 &&& pp_sat S g 0 = 0
  · refine br_t (by rw [z1, z2, px_and0 (rg _ (Or.inr rt.1)).2]; exact hz) (fin 1 ?_)
    rw [show pp_cs n (pp_bs (pp_S n m S W) (pp_U n)) (pp_sat S g) 0 = 1 from if_pos hz]
    rfl
  · refine br_f (by rw [z1, z2, px_and0 (rg _ (Or.inr rt.1)).2]; exact hz) (fin 0 ?_)
    rw [show pp_cs n (pp_bs (pp_S n m S W) (pp_U n)) (pp_sat S g) 0 = 0 from if_neg hz]
    rfl
end
section
/-! the constructors -/
def pv_c (x : Int32) (lo hi : Nat) : Nat := if nI lo ≤ x then (if x ≤ nI hi then x.toNatClampNeg else hi) else lo
theorem pv_c1 (x : Int32) {lo hi : Nat} (h : lo ≤ hi) (hh : hi < 2 ^ 31) : lo ≤ pv_c x lo hi ∧ pv_c x lo hi ≤ hi ∧ (nI lo ≤ x → x ≤ nI hi → x = nI (pv_c x lo hi)) := by
  unfold pv_c
  by_cases h1 : nI lo ≤ x
  · rw [if_pos h1]
    by_cases h2 : x ≤ nI hi
    · rw [if_pos h2]
      have h0 : ¬ x < 0 := by
        rw [Int32.not_lt]
        exact Int32.le_trans (nI_pos' (by omega)) h1
      obtain ⟨j, hj, rfl⟩ := nI_of h0
      rw [nI_leI (by omega) hj] at h1
      rw [nI_leI hj hh] at h2
      rw [nI_clamp hj]
      exact ⟨h1, h2, fun _ _ => rfl⟩
    · rw [if_neg h2]
      exact ⟨h, Nat.le_refl _, fun _ z => absurd z h2⟩
  · rw [if_neg h1]
    exact ⟨Nat.le_refl _, h, fun z => absurd z h1⟩
theorem px_cla {post : Int32 → Prop} {x : Int32} {lo hi : Nat} (hl : lo ≤ hi) (hh : hi < 2 ^ 31) (h : post (nI (pv_c x lo hi))) : wpX_clamp post x (nI lo) (nI hi) := by
  have g := (pv_c1 x hl hh).2.2
  by_cases h1 : nI lo ≤ x
  · by_cases h2 : x ≤ nI hi
    · rw [← g h1 h2] at h
      exact br_t h1 (br_t h2 h)
    · have e : pv_c x lo hi = hi := by unfold pv_c; rw [if_pos h1, if_neg h2]
      rw [e] at h
      exact br_t h1 (br_f h2 h)
  · have e : pv_c x lo hi = lo := if_neg h1
    rw [e] at h
    exact br_f h1 h
section PV1
variable {xtx xst xos xrc xlm xtg xsp xft xfs xsm xfr xls xbc : Int32} {aw az ac ap al ar ao ah ab : Nat → Int32}
theorem px_i122 {post : SX → Prop} (K : ∀ w : Nat → Int32, (∀ s, s < 8 → w s = 1) → post (xtx, xst, (-1), xrc, xlm, xtg, xsp, xft, xfs, xsm, xfr, xls, xbc, w, az, ac, ap, al, ar, ao, ah, ab)) :
    ∀ d i (w : Nat → Int32), i + d = 8 → (∀ s, s < i → w s = 1) → wX_init_122 post xtx xst xos xrc xlm xtg xsp xft xfs xsm xfr xls xbc (d + 1) (nI i) w az ac ap al ar ao ah ab := by
  intro d
  induction d with
  | zero =>
    intro i w hi h
    have e : i = 8 := by omega
    subst e
    exact br_t (nI_le (a := 8) (b := 8) (Nat.le_refl _) (by decide)) (K w h)
  | succ d ih =>
    intro i w hi h
    refine br_f (nI_ge (b := 8) (by omega) (by decide)) (And.intro (vp_in_nI (by omega) (by decide)) (nm_r (e' := upd w i 1) (by rw [nI_clamp (by omega)]) (nm_r (nI_1 i) (ih (i + 1) _ (by omega) fun s hs => ?_))))
    by_cases e : s = i
    · rw [e, pk_us]
    · rw [pk_un e]; exact h s (by omega)
theorem px_i100 {post : SX → Prop} (K : ∀ w z : Nat → Int32, (∀ s, s < 8 → w s = 1) → (∀ i, i < 80 → z i = 15) → post (xtx, xst, (-1), xrc, xlm, xtg, xsp, xft, xfs, xsm, xfr, xls, xbc, w, z, ac, ap, al, ar, ao, ah, ab)) :
    ∀ d i (z : Nat → Int32), i + d = 80 → (∀ s, s < i → z s = 15) → wX_init_100 post xtx xst xos xrc xlm xtg xsp xft xfs xsm xfr xls xbc (d + 1) (nI i) aw z ac ap al ar ao ah ab := by
  intro d
  induction d with
  | zero =>
    intro i z hi h
    have e : i = 80 := by omega
    subst e
    exact br_t (nI_le (a := 80) (b := 80) (Nat.le_refl _) (by decide)) (Exists.intro 9 (px_i122 (fun w hw => K w z hw h) 8 0 aw (by omega) (fun s hs => absurd hs (by omega))))
  | succ d ih =>
    intro i z hi h
    refine br_f (nI_ge (b := 80) (by omega) (by decide)) (And.intro (vp_in_nI (by omega) (by decide)) (nm_r (e' := upd z i 15) (by rw [nI_clamp (by omega)]) (nm_r (nI_1 i) (ih (i + 1) _ (by omega) fun s hs => ?_))))
    by_cases e : s = i
    · rw [e, pk_us]
    · rw [pk_un e]; exact h s (by omega)
end PV1
section PV2
variable {yn ys yk : Int32} {bz bw bn bf bc bd be : Nat → Int32}
theorem py_i141 {post : SY → Prop} (K : ∀ w : Nat → Int32, (∀ s, s < 8 → w s = 1) → post (yn, ys, yk, bz, w, bn, bf, bc, bd, be)) :
    ∀ d i (w : Nat → Int32), i + d = 8 → (∀ s, s < i → w s = 1) → wY_init_141 post yn ys yk (d + 1) (nI i) bz w bn bf bc bd be := by
  intro d
  induction d with
  | zero =>
    intro i w hi h
    have e : i = 8 := by omega
    subst e
    exact br_t (nI_le (a := 8) (b := 8) (Nat.le_refl _) (by decide)) (K w h)
  | succ d ih =>
    intro i w hi h
    refine br_f (nI_ge (b := 8) (by omega) (by decide)) (And.intro (vp_in_nI (by omega) (by decide)) (nm_r (e' := upd w i 1) (by rw [nI_clamp (by omega)]) (nm_r (nI_1 i) (ih (i + 1) _ (by omega) fun s hs => ?_))))
    by_cases e : s = i
    · rw [e, pk_us]
    · rw [pk_un e]; exact h s (by omega)
theorem py_i116 {post : SY → Prop} (K : ∀ w z : Nat → Int32, (∀ s, s < 8 → w s = 1) → (∀ i, i < 48 → z i = 15) → post (yn, ys, yk, z, w, bn, bf, bc, bd, be)) :
    ∀ d i (z : Nat → Int32), i + d = 48 → (∀ s, s < i → z s = 15) → wY_init_116 post yn ys yk (d + 1) (nI i) z bw bn bf bc bd be := by
  intro d
  induction d with
  | zero =>
    intro i z hi h
    have e : i = 48 := by omega
    subst e
    exact br_t (nI_le (a := 48) (b := 48) (Nat.le_refl _) (by decide)) (Exists.intro 9 (py_i141 (fun w hw => K w z hw h) 8 0 bw (by omega) (fun s hs => absurd hs (by omega))))
  | succ d ih =>
    intro i z hi h
    refine br_f (nI_ge (b := 48) (by omega) (by decide)) (And.intro (vp_in_nI (by omega) (by decide)) (nm_r (e' := upd z i 15) (by rw [nI_clamp (by omega)]) (nm_r (nI_1 i) (ih (i + 1) _ (by omega) fun s hs => ?_))))
    by_cases e : s = i
    · rw [e, pk_us]
    · rw [pk_un e]; exact h s (by omega)
theorem py_i91 {post : SY → Prop} {x y : Int32} (K : wY_init_102 post y (nI (pv_c x 1 8)) yn ys yk bz bw bn bf bc bd be) : wY_init_79 post x y yn ys yk bz bw bn bf bc bd be := by
  have g := (pv_c1 x (lo := 1) (hi := 8) (by decide) (by decide)).2.2
  by_cases h1 : nI 1 ≤ x
  · by_cases h2 : x ≤ nI 8
    · rw [← g h1 h2] at K
      exact br_t h1 (br_t h2 K)
    · have e : pv_c x 1 8 = 8 := by unfold pv_c; rw [if_pos h1, if_neg h2]
      rw [e] at K
      exact br_t h1 (br_f h2 K)
  · have e : pv_c x 1 8 = 1 := if_neg h1
    rw [e] at K
    exact br_f h1 (br_t (by decide) K)
end PV2
theorem py_ini {post : SY → Prop} {k0 k1 : Int32} (K : ∀ w z : Nat → Int32, (∀ s, s < 8 → w s = 1) → (∀ i, i < 48 → z i = 15) →
    post (nI (pv_c k0 3 6), nI (pv_c k1 1 8), 0, z, w, fun _ => 0, fun _ => 0, fun _ => 0, fun _ => 0, fun _ => 0)) : wpY_init post k0 k1 := by
  have g := (pv_c1 k0 (lo := 3) (hi := 6) (by decide) (by decide)).2.2
  have M : wY_init_79 post k1 (nI (pv_c k0 3 6)) 0 0 0 (fun _ => 0) (fun _ => 0) (fun _ => 0) (fun _ => 0) (fun _ => 0) (fun _ => 0) (fun _ => 0) :=
    py_i91 (Exists.intro 49 (py_i116 K 48 0 (fun _ => 0) (by omega) (fun s hs => absurd hs (by omega))))
  by_cases h1 : nI 3 ≤ k0
  · by_cases h2 : k0 ≤ nI 6
    · rw [← g h1 h2] at M
      exact br_t h1 (br_t h2 M)
    · have e : pv_c k0 3 6 = 6 := by unfold pv_c; rw [if_pos h1, if_neg h2]
      rw [e] at M
      exact br_t h1 (br_f h2 M)
  · have e : pv_c k0 3 6 = 3 := if_neg h1
    rw [e] at M
    exact br_f h1 (br_t (by decide) M)
theorem px_ini {post : SX → Prop} {k0 k1 : Int32} (K : ∀ w z : Nat → Int32, (∀ s, s < 8 → w s = 1) → (∀ i, i < 80 → z i = 15) →
    post (nI (pv_c k0 3 6), nI (pv_c k1 1 8), -1, 0, 0, 0, 0, 0, 0, 0, 0, 0, 0, w, z, fun _ => 0, fun _ => 0, fun _ => 0, fun _ => 0, fun _ => 0, fun _ => 0, fun _ => 0)) : wpX_init post k0 k1 := by
  unfold wpX_init
  refine px_cla (lo := 3) (hi := 6) (by decide) (by decide) ?_
  refine px_cla (lo := 1) (hi := 8) (by decide) (by decide) ?_
  exact Exists.intro 81 (px_i100 K 80 0 (fun _ => 0) (by omega) (fun s hs => absurd hs (by omega)))
end
section
/-! what is owed -/
def pv_u (f : Nat → Nat) (k x : Nat) : Nat → Nat := fun j => if j = k then x else f j
theorem pv_us {f : Nat → Nat} {k x : Nat} : pv_u f k x k = x := if_pos rfl
theorem pv_un {f : Nat → Nat} {k x j : Nat} (h : j ≠ k) : pv_u f k x j = f j := if_neg h
def i_Rel (k : Nat) (u : SX) (v : SY) : Prop := ∃ (n m : Nat) (S W : Nat → Nat), pp_par n m S W ∧ px_I n m S W u ∧ py_I n m S W v
theorem i_up {k : Nat} {u : SX} {v : SY} (h : i_Rel k u v) : i_Rel (k + 4) u v := h
theorem i_vc0 (k0 : Int32) (k1 : Int32) : wpX_init (fun u => wpY_init (fun v => i_Rel 2 u v) k0 k1) k0 k1 := by
  refine px_ini ?_
  intro w z hw hz
  refine py_ini ?_
  intro w' z' hw' hz'
  have a := pv_c1 k0 (lo := 3) (hi := 6) (by decide) (by decide)
  have b := pv_c1 k1 (lo := 1) (hi := 8) (by decide) (by decide)
  refine ⟨pv_c k0 3 6, pv_c k1 1 8, fun _ => 15, fun _ => 1, ⟨a.1, a.2.1, b.1, b.2.1, fun _ _ => (by decide : 1 ≤ 15 ∧ 15 < 16), fun _ _ => (by decide : 1 ≤ 9)⟩, ⟨rfl, rfl, rfl, fun i hi => hz i (by omega), fun s hs => hw s hs, fun h => absurd rfl h⟩, ⟨rfl, rfl, fun i hi => hz' i hi, fun s hs => hw' s hs, fun h => absurd rfl h⟩⟩
theorem pv_site {q : Int32} {m : Nat} (hm : m ≤ 8) : (q < 0 ∨ ¬ q < nI m) ∨ (∃ g, g < m ∧ q = nI g) := by
  by_cases h : q < 0
  · exact Or.inl (Or.inl h)
  · obtain ⟨g, hg, rfl⟩ := nI_of h
    by_cases h2 : g < m
    · exact Or.inr ⟨g, h2, rfl⟩
    · exact Or.inl (Or.inr (nI_nlt (by omega) hg))
theorem i_vc_states {k : Nat} {u : SX} {v : SY} (I : i_Rel k u v) (hk : k + 4 ≤ 2050) (v1 : Int32) (v2 : Int32) (v3 : Int32) : wpX_states (fun r u' => wpY_states (fun r' v' => r' = r ∧ i_Rel (k + 4) u' v') v v1 v2 v3) u v1 v2 v3 := by
  have I0 : i_Rel (k + 4) u v := I
  obtain ⟨n, m, S, W, p, X, Y⟩ := I
  obtain ⟨xtx, xst, xos, xrc, xlm, xtg, xsp, xft, xfs, xsm, xfr, xls, xbc, aw, az, ac, ap, al, ar, ao, ah, ab⟩ := u
  obtain ⟨yn, ys, yk, bz, bw, bn, bf, bc, bd, be⟩ := v
  obtain ⟨i1, i2, i3, i4, i5, i6⟩ := X
  obtain ⟨j1, j2, j3, j4, j5⟩ := Y
  have p2 := p.2.1
  have p4 := p.2.2.2.1
  by_cases c1 : v1 < 0
  · exact br_t c1 (br_t c1 ⟨rfl, I0⟩)
  · obtain ⟨a, ha, rfl⟩ := nI_of c1
    by_cases c2 : a < n
    · have d2 : nI a < xtx := by rw [i1]; exact nI_lt c2 (by omega)
      have d2' : nI a < yn := by rw [j1]; exact nI_lt c2 (by omega)
      refine br_f c1 (br_t d2 ?_)
      rcases pv_site (q := v2) p4 with c3 | ⟨g, hg, rfl⟩
      · exact px_bad (by rw [i2]; exact c3) (br_f (by decide) (br_f c1 (br_t d2' (py_bad (by rw [j2]; exact c3) (br_f (by decide) ⟨rfl, I0⟩)))))
      · have g0 : ¬ nI g < 0 := nI_pos (by omega)
        have gx : nI g < xst := by rw [i2]; exact nI_lt hg (by omega)
        have gy : nI g < ys := by rw [j2]; exact nI_lt hg (by omega)
        refine px_good g0 gx (br_t rfl ?_)
        by_cases c4 : v3 < 1
        · exact br_t c4 (br_f c1 (br_t d2' (py_good g0 gy (br_t rfl (br_t c4 ⟨rfl, I0⟩)))))
        · by_cases c5 : v3 ≤ 15
          · have h0 : ¬ v3 < 0 := by
              intro z
              exact c4 (Int32.lt_trans z (by decide))
            obtain ⟨t, ht, rfl⟩ := nI_of h0
            have t1 : 1 ≤ t := by
              rw [show (1 : Int32) = nI 1 from rfl, nI_ltI ht (by decide)] at c4
              omega
            have t15 : t ≤ 15 := by
              rw [show (15 : Int32) = nI 15 from rfl, nI_leI ht (by decide)] at c5
              exact c5
            have e8 := px_n8 a g
            have q1 := pk_in (a * 8 + g) 80 (by omega) e8
            have q2 := pk_in (a * 8 + g) 48 (by omega) e8
            have q3 : (nI a * 8 + nI g).toNatClampNeg = a * 8 + g := pk_cl (a * 8 + g) e8
            refine br_f c4 (br_t c5 (And.intro q1 (nm_r (e' := nI (S (a * 8 + g))) (by rw [q3]; exact i4 _ (by omega)) (And.intro q1 (nm_r (e' := upd az (a * 8 + g) (nI t)) (by rw [q3]) ?_)))))
            refine br_f c1 (br_t d2' (py_good g0 gy (br_t rfl (br_f c4 (br_t c5 (And.intro q2 (nm_r (e' := nI (S (a * 8 + g))) (by rw [q3]; exact j3 _ (by omega)) (And.intro q2 (nm_r (e' := upd bz (a * 8 + g) (nI t)) (by rw [q3]) ⟨rfl, ?_⟩)))))))))
            refine ⟨n, m, pv_u S (a * 8 + g) t, W, ⟨p.1, p.2.1, p.2.2.1, p.2.2.2.1, ?_, p.2.2.2.2.2⟩, ⟨i1, i2, i3, ?_, i5, fun h => absurd rfl h⟩, ⟨j1, j2, ?_, j4, fun h => absurd rfl h⟩⟩
            · intro i hi
              by_cases e : i = a * 8 + g
              · rw [e, pv_us]; omega
              · rw [pv_un e]; exact p.2.2.2.2.1 i hi
            · intro i hi
              by_cases e : i = a * 8 + g
              · rw [e, pv_us, pk_us]
              · rw [pv_un e, pk_un e]; exact i4 i hi
            · intro i hi
              by_cases e : i = a * 8 + g
              · rw [e, pv_us, pk_us]
              · rw [pv_un e, pk_un e]; exact j3 i hi
          · exact br_f c4 (br_f c5 (br_f c1 (br_t d2' (py_good g0 gy (br_t rfl (br_f c4 (br_f c5 ⟨rfl, I0⟩)))))))
    · exact br_f c1 (br_f (by rw [i1]; exact nI_nlt (by omega) ha) (br_f c1 (br_f (by rw [j1]; exact nI_nlt (by omega) ha) ⟨rfl, I0⟩)))
theorem i_vc_weight {k : Nat} {u : SX} {v : SY} (I : i_Rel k u v) (hk : k + 4 ≤ 2050) (v1 : Int32) (v2 : Int32) : wpX_weight (fun r u' => wpY_weight (fun r' v' => r' = r ∧ i_Rel (k + 4) u' v') v v1 v2) u v1 v2 := by
  have I0 : i_Rel (k + 4) u v := I
  obtain ⟨n, m, S, W, p, X, Y⟩ := I
  obtain ⟨xtx, xst, xos, xrc, xlm, xtg, xsp, xft, xfs, xsm, xfr, xls, xbc, aw, az, ac, ap, al, ar, ao, ah, ab⟩ := u
  obtain ⟨yn, ys, yk, bz, bw, bn, bf, bc, bd, be⟩ := v
  obtain ⟨i1, i2, i3, i4, i5, i6⟩ := X
  obtain ⟨j1, j2, j3, j4, j5⟩ := Y
  have p4 := p.2.2.2.1
  unfold wpX_weight wpY_weight
  dsimp only
  rcases pv_site (q := v1) p4 with c3 | ⟨g, hg, rfl⟩
  · exact px_bad (by rw [i2]; exact c3) (br_f (by decide) (py_bad (by rw [j2]; exact c3) (br_f (by decide) ⟨rfl, I0⟩)))
  · have g0 : ¬ nI g < 0 := nI_pos (by omega)
    have gx : nI g < xst := by rw [i2]; exact nI_lt hg (by omega)
    have gy : nI g < ys := by rw [j2]; exact nI_lt hg (by omega)
    refine px_good g0 gx (br_t rfl ?_)
    by_cases c4 : v2 < 0
    · exact br_t c4 (py_good g0 gy (br_t rfl (br_t c4 ⟨rfl, I0⟩)))
    · by_cases c5 : v2 ≤ 9
      · obtain ⟨t, ht, rfl⟩ := nI_of c4
        have t9 : t ≤ 9 := by
          rw [show (9 : Int32) = nI 9 from rfl, nI_leI ht (by decide)] at c5
          exact c5
        have q1 : vp_in (nI g) 8 := vp_in_nI (by omega) (by decide)
        have q3 : (nI g).toNatClampNeg = g := nI_clamp (by omega)
        refine br_f c4 (br_t c5 (And.intro q1 (nm_r (e' := nI (W g)) (by rw [q3]; exact i5 _ (by omega)) (And.intro q1 (nm_r (e' := upd aw g (nI t)) (by rw [q3]) ?_)))))
        refine py_good g0 gy (br_t rfl (br_f c4 (br_t c5 (And.intro q1 (nm_r (e' := nI (W g)) (by rw [q3]; exact j4 _ (by omega)) (And.intro q1 (nm_r (e' := upd bw g (nI t)) (by rw [q3]) ⟨rfl, ?_⟩)))))))
        refine ⟨n, m, S, pv_u W g t, ⟨p.1, p.2.1, p.2.2.1, p.2.2.2.1, p.2.2.2.2.1, ?_⟩, ⟨i1, i2, i3, i4, ?_, fun h => absurd rfl h⟩, ⟨j1, j2, j3, ?_, j5⟩⟩
        · intro i hi
          by_cases e : i = g
          · rw [e, pv_us]; omega
          · rw [pv_un e]; exact p.2.2.2.2.2 i hi
        · intro i hi
          by_cases e : i = g
          · rw [e, pv_us, pk_us]
          · rw [pv_un e, pk_un e]; exact i5 i hi
        · intro i hi
          by_cases e : i = g
          · rw [e, pv_us, pk_us]
          · rw [pv_un e, pk_un e]; exact j4 i hi
      · exact br_f c4 (br_f c5 (py_good g0 gy (br_t rfl (br_f c4 (br_f c5 ⟨rfl, I0⟩)))))
theorem i_vc_trees {k : Nat} {u : SX} {v : SY} (I : i_Rel k u v) (hk : k + 4 ≤ 2050) : wpX_trees (fun r => wpY_trees (fun r' => r' = r ∧ i_Rel (k + 4) u v) v) u := by
  have I0 : i_Rel (k + 4) u v := I
  obtain ⟨n, m, S, W, p, X, Y⟩ := I
  obtain ⟨xtx, xst, xos, xrc, xlm, xtg, xsp, xft, xfs, xsm, xfr, xls, xbc, aw, az, ac, ap, al, ar, ao, ah, ab⟩ := u
  obtain ⟨yn, ys, yk, bz, bw, bn, bf, bc, bd, be⟩ := v
  exact px_trs p.1 p.2.1 X.1 (py_tr p.1 p.2.1 Y.1 ⟨rfl, I0⟩)
theorem i_vc_score {k : Nat} {u : SX} {v : SY} (I : i_Rel k u v) (hk : k + 4 ≤ 2050) (v1 : Int32) : wpX_score (fun r u' => wpY_score (fun r' v' => r' = r ∧ i_Rel (k + 4) u' v') v v1) u v1 := by
  have I0 : i_Rel (k + 4) u v := I
  obtain ⟨n, m, S, W, p, X, Y⟩ := I
  have x105 := pp_U105 p.1 p.2.1
  by_cases c1 : v1 < 0
  · obtain ⟨xtx, xst, xos, xrc, xlm, xtg, xsp, xft, xfs, xsm, xfr, xls, xbc, aw, az, ac, ap, al, ar, ao, ah, ab⟩ := u
    obtain ⟨yn, ys, yk, bz, bw, bn, bf, bc, bd, be⟩ := v
    unfold wpX_score
    dsimp only
    exact px_trs p.1 p.2.1 X.1 (br_t c1 (br_t c1 ⟨rfl, I0⟩))
  · obtain ⟨x, hx, rfl⟩ := nI_of c1
    by_cases c2 : x < pp_U n
    · refine px_sco p X c2 ?_
      intro u' X'
      refine py_sco p Y c2 ?_
      intro v' Y' _
      exact ⟨rfl, n, m, S, W, p, X', Y'⟩
    · obtain ⟨xtx, xst, xos, xrc, xlm, xtg, xsp, xft, xfs, xsm, xfr, xls, xbc, aw, az, ac, ap, al, ar, ao, ah, ab⟩ := u
      obtain ⟨yn, ys, yk, bz, bw, bn, bf, bc, bd, be⟩ := v
      unfold wpX_score
      dsimp only
      refine px_trs p.1 p.2.1 X.1 (br_f c1 (br_f (nI_nlt (by omega) hx) ?_))
      exact br_f c1 (py_tr p.1 p.2.1 Y.1 (br_f (nI_nlt (by omega) hx) ⟨rfl, I0⟩))
theorem i_vc_least {k : Nat} {u : SX} {v : SY} (I : i_Rel k u v) (hk : k + 4 ≤ 2050) : wpX_least (fun r u' => wpY_least (fun r' v' => r' = r ∧ i_Rel (k + 4) u' v') v) u := by
  obtain ⟨n, m, S, W, p, X, Y⟩ := I
  refine px_lea p X ?_
  intro u' X'
  refine py_least p Y ?_
  intro v' Y'
  exact ⟨rfl, n, m, S, W, p, X', Y'⟩
theorem i_vc_bestTree {k : Nat} {u : SX} {v : SY} (I : i_Rel k u v) (hk : k + 4 ≤ 2050) : wpX_bestTree (fun r u' => wpY_bestTree (fun r' v' => r' = r ∧ i_Rel (k + 4) u' v') v) u := by
  obtain ⟨n, m, S, W, p, X, Y⟩ := I
  refine px_bes p X ?_
  intro u' X'
  refine py_best p Y ?_
  intro v' Y' _
  exact ⟨rfl, n, m, S, W, p, X', Y'⟩
theorem i_vc_within {k : Nat} {u : SX} {v : SY} (I : i_Rel k u v) (hk : k + 4 ≤ 2050) (v1 : Int32) : wpX_within (fun r u' => wpY_within (fun r' v' => r' = r ∧ i_Rel (k + 4) u' v') v v1) u v1 := by
  obtain ⟨n, m, S, W, p, X, Y⟩ := I
  by_cases c1 : v1 < 0
  · obtain ⟨xtx, xst, xos, xrc, xlm, xtg, xsp, xft, xfs, xsm, xfr, xls, xbc, aw, az, ac, ap, al, ar, ao, ah, ab⟩ := u
    refine br_f (Int32.not_le.mpr c1) ?_
    refine py_wiN p Y c1 ?_
    intro v' Y'
    exact ⟨rfl, n, m, S, W, p, X, Y'⟩
  · obtain ⟨q, hq, rfl⟩ := nI_of c1
    refine px_wi p X hq ?_
    intro u' X'
    refine py_wi p Y hq ?_
    intro v' Y'
    exact ⟨rfl, n, m, S, W, p, X', Y'⟩
theorem i_vc_support {k : Nat} {u : SX} {v : SY} (I : i_Rel k u v) (hk : k + 4 ≤ 2050) (v1 : Int32) : wpX_support (fun r u' => wpY_support (fun r' v' => r' = r ∧ i_Rel (k + 4) u' v') v v1) u v1 := by
  have I0 : i_Rel (k + 4) u v := I
  obtain ⟨n, m, S, W, p, X, Y⟩ := I
  have em := py_msk p.2.1 v1
  have hsp := Nat.mod_lt v1.toBitVec.toNat (Nat.two_pow_pos n)
  have h64 : 2 ^ n ≤ 2 ^ 6 := Nat.pow_le_pow_right (by omega) p.2.1
  generalize v1.toBitVec.toNat % 2 ^ n = sp at em hsp
  by_cases c1 : sp = 0
  · obtain ⟨xtx, xst, xos, xrc, xlm, xtg, xsp, xft, xfs, xsm, xfr, xls, xbc, aw, az, ac, ap, al, ar, ao, ah, ab⟩ := u
    obtain ⟨yn, ys, yk, bz, bw, bn, bf, bc, bd, be⟩ := v
    exact nm_r (py_all p.2.1 X.1) (nm_r em (br_t (congrArg nI c1) (nm_r (py_all p.2.1 Y.1) (nm_r em (br_t (congrArg nI c1) ⟨rfl, I0⟩)))))
  · by_cases c2 : sp = 2 ^ n - 1
    · have d1 : ¬ nI sp = 0 := nI_ne0 (by omega) (by omega)
      obtain ⟨xtx, xst, xos, xrc, xlm, xtg, xsp, xft, xfs, xsm, xfr, xls, xbc, aw, az, ac, ap, al, ar, ao, ah, ab⟩ := u
      obtain ⟨yn, ys, yk, bz, bw, bn, bf, bc, bd, be⟩ := v
      exact nm_r (py_all p.2.1 X.1) (nm_r em (br_f d1 (br_t (congrArg nI c2) (nm_r (py_all p.2.1 Y.1) (nm_r em (br_f d1 (br_t (congrArg nI c2) ⟨rfl, I0⟩)))))))
    · refine px_su p X em (by omega) (by omega) ?_
      intro u' X'
      refine py_su p Y em (by omega) (by omega) ?_
      intro v' Y'
      exact ⟨rfl, n, m, S, W, p, X', Y'⟩
theorem i_vc_siteLeast {k : Nat} {u : SX} {v : SY} (I : i_Rel k u v) (hk : k + 4 ≤ 2050) (v1 : Int32) : wpX_siteLeast (fun r u' => wpY_siteLeast (fun r' v' => r' = r ∧ i_Rel (k + 4) u' v') v v1) u v1 := by
  have I0 : i_Rel (k + 4) u v := I
  obtain ⟨n, m, S, W, p, X, Y⟩ := I
  rcases pv_site (q := v1) p.2.2.2.1 with c3 | ⟨g, hg, rfl⟩
  · obtain ⟨xtx, xst, xos, xrc, xlm, xtg, xsp, xft, xfs, xsm, xfr, xls, xbc, aw, az, ac, ap, al, ar, ao, ah, ab⟩ := u
    obtain ⟨yn, ys, yk, bz, bw, bn, bf, bc, bd, be⟩ := v
    have i2 : xst = nI m := X.2.1
    have j2 : ys = nI m := Y.2.1
    unfold wpX_siteLeast wpY_siteLeast
    dsimp only
    exact px_bad (by rw [i2]; exact c3) (br_f (by decide) (py_bad (by rw [j2]; exact c3) (br_f (by decide) ⟨rfl, I0⟩)))
  · refine px_sl p X hg ?_
    intro u' X'
    refine py_sl p Y hg ?_
    intro v' Y'
    exact ⟨rfl, n, m, S, W, p, X', Y'⟩
theorem i_vc_changes {k : Nat} {u : SX} {v : SY} (I : i_Rel k u v) (hk : k + 4 ≤ 2050) (v1 : Int32) : wpX_changes (fun r u' => wpY_changes (fun r' v' => r' = r ∧ i_Rel (k + 4) u' v') v v1) u v1 := by
  have I0 : i_Rel (k + 4) u v := I
  obtain ⟨n, m, S, W, p, X, Y⟩ := I
  rcases pv_site (q := v1) p.2.2.2.1 with c3 | ⟨g, hg, rfl⟩
  · obtain ⟨xtx, xst, xos, xrc, xlm, xtg, xsp, xft, xfs, xsm, xfr, xls, xbc, aw, az, ac, ap, al, ar, ao, ah, ab⟩ := u
    obtain ⟨yn, ys, yk, bz, bw, bn, bf, bc, bd, be⟩ := v
    have i2 : xst = nI m := X.2.1
    have j2 : ys = nI m := Y.2.1
    unfold wpX_changes wpY_changes
    dsimp only
    exact px_bad (by rw [i2]; exact c3) (br_f (by decide) (py_bad (by rw [j2]; exact c3) (br_f (by decide) ⟨rfl, I0⟩)))
  · refine px_cg p X hg ?_
    intro u' X'
    refine py_cg p Y hg ?_
    intro v' Y'
    exact ⟨rfl, n, m, S, W, p, X', Y'⟩
end
