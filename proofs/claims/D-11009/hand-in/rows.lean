section
/-! ===== lN n to 2^64: shifts, and, or, masks, one bit ===== -/
theorem wb_tb (n : Nat) : (lN n).toBitVec = BitVec.ofNat 64 n := rfl
theorem wb_inj {a b : Int64} (h : a.toBitVec = b.toBitVec) : a = b := Int64.toBitVec_inj.mp h
theorem wb_tn {n : Nat} (h : n < 2 ^ 64) : (lN n).toBitVec.toNat = n := by rw [wb_tb, BitVec.toNat_ofNat, Nat.mod_eq_of_lt h]
theorem wb_of (x : Int64) : ∃ n, n < 2 ^ 64 ∧ x = lN n := ⟨x.toBitVec.toNat, x.toBitVec.isLt, wb_inj (by rw [wb_tb]; simp)⟩
theorem wb_of32 (x : Int32) : ∃ n, n < 2 ^ 32 ∧ x = nI n := ⟨x.toBitVec.toNat, x.toBitVec.isLt, Int32.toBitVec_inj.mp (by show _ = BitVec.ofNat 32 _; simp)⟩
theorem wb_c : ∀ k, k < 64 → ((nI k).toInt64 &&& 63) = lN k := by decide +kernel
theorem wb_cu : ∀ k, k < 64 → ((nI k).toInt64.toUInt64 &&& Int64.toUInt64 63) = UInt64.ofNat k := by decide +kernel
theorem wb_sm : ∀ k, k < 64 → (BitVec.ofNat 64 k).smod 64 = BitVec.ofNat 64 k := by decide +kernel
theorem wb_pw {a b : Nat} (h : a ≤ b) : 2 ^ b = 2 ^ a * 2 ^ (b - a) := by rw [← Nat.pow_add]; congr 1; omega
theorem wb_lt2 {a b : Nat} (h : a < b) : 2 ^ a < 2 ^ b := Nat.pow_lt_pow_right (by decide) h
theorem wb_mod (n : Nat) : lN n = lN (n % 2 ^ 64) := wb_inj (by rw [wb_tb, wb_tb]; apply BitVec.eq_of_toNat_eq; rw [BitVec.toNat_ofNat, BitVec.toNat_ofNat, Nat.mod_mod])
theorem wb_shr {n k : Nat} (hn : n < 2 ^ 64) (hk : k < 64) : ((lN n).toUInt64 >>> ((nI k).toInt64.toUInt64 &&& Int64.toUInt64 63)).toInt64 = lN (n / 2 ^ k) := by
  rw [wb_cu k hk]
  apply wb_inj
  apply BitVec.eq_of_toNat_eq
  show ((lN n).toUInt64 >>> UInt64.ofNat k).toNat = (BitVec.ofNat 64 _).toNat
  have h1 : (UInt64.ofNat k).toNat = k := by
    show (BitVec.ofNat 64 k).toNat = k
    rw [BitVec.toNat_ofNat, Nat.mod_eq_of_lt (by omega)]
  have h2 : (lN n).toUInt64.toNat = n := wb_tn hn
  rw [UInt64.toNat_shiftRight, h1, h2, Nat.mod_eq_of_lt hk, Nat.shiftRight_eq_div_pow, BitVec.toNat_ofNat, Nat.mod_eq_of_lt (Nat.lt_of_le_of_lt (Nat.div_le_self _ _) hn)]
theorem wb_shl (n : Nat) {k : Nat} (hk : k < 64) : lN n <<< ((nI k).toInt64 &&& 63) = lN (n * 2 ^ k) := by
  rw [wb_c k hk]
  apply wb_inj
  rw [Int64.toBitVec_shiftLeft, wb_tb, wb_tb, wb_tb, wb_sm k hk]
  apply BitVec.eq_of_toNat_eq
  rw [BitVec.shiftLeft_eq', BitVec.toNat_shiftLeft, BitVec.toNat_ofNat, BitVec.toNat_ofNat, BitVec.toNat_ofNat, Nat.mod_eq_of_lt (show k < 2 ^ 64 by omega), Nat.shiftLeft_eq, Nat.mul_mod, Nat.mod_mod, ← Nat.mul_mod]
theorem wb_and {a b : Nat} (ha : a < 2 ^ 64) (hb : b < 2 ^ 64) : lN a &&& lN b = lN (a &&& b) := by
  apply wb_inj
  rw [Int64.toBitVec_and, wb_tb, wb_tb, wb_tb]
  apply BitVec.eq_of_toNat_eq
  rw [BitVec.toNat_and, BitVec.toNat_ofNat, BitVec.toNat_ofNat, BitVec.toNat_ofNat, Nat.mod_eq_of_lt ha, Nat.mod_eq_of_lt hb, Nat.mod_eq_of_lt (Nat.and_lt_two_pow _ hb)]
theorem wb_or {a b : Nat} (ha : a < 2 ^ 64) (hb : b < 2 ^ 64) : lN a ||| lN b = lN (a ||| b) := by
  apply wb_inj
  rw [Int64.toBitVec_or, wb_tb, wb_tb, wb_tb]
  apply BitVec.eq_of_toNat_eq
  rw [BitVec.toNat_or, BitVec.toNat_ofNat, BitVec.toNat_ofNat, BitVec.toNat_ofNat, Nat.mod_eq_of_lt ha, Nat.mod_eq_of_lt hb, Nat.mod_eq_of_lt (Nat.or_lt_two_pow ha hb)]
theorem wb_mask {n k : Nat} (hn : n < 2 ^ 64) (hk : k < 64) : lN n &&& lN (2 ^ k - 1) = lN (n % 2 ^ k) := by
  rw [wb_and hn (by have := wb_lt2 hk; omega), Nat.and_two_pow_sub_one_eq_mod]
theorem wb_a1 {n : Nat} (hn : n < 2 ^ 64) : lN n &&& 1 = lN (n % 2) := wb_mask (k := 1) hn (by decide)
theorem wb_bit {n k : Nat} (hn : n < 2 ^ 64) (hk : k < 64) : ((lN n).toUInt64 >>> ((nI k).toInt64.toUInt64 &&& Int64.toUInt64 63)).toInt64 &&& 1 = lN (n / 2 ^ k % 2) := by
  rw [wb_shr hn hk, wb_a1 (Nat.lt_of_le_of_lt (Nat.div_le_self _ _) hn)]
/-! ===== bits of a word, small numbers ===== -/
theorem rt_bit (n : Nat) {k : Nat} (hk : k < 64) : ((lN n).toUInt64 >>> ((nI k).toInt64.toUInt64 &&& Int64.toUInt64 63)).toInt64 &&& 1 = 0 ↔ n.testBit k = false := by
  have hm : n % 2 ^ 64 < 2 ^ 64 := Nat.mod_lt _ (by decide)
  have e : (n % 2 ^ 64).testBit k = n.testBit k := by
    rw [Nat.testBit_mod_two_pow, decide_eq_true hk, Bool.true_and]
  rw [wb_mod n, wb_bit hm hk, ← e, Nat.testBit_eq_decide_div_mod_eq]
  have h2 : n % 2 ^ 64 / 2 ^ k % 2 < 2 := Nat.mod_lt _ (by decide)
  generalize n % 2 ^ 64 / 2 ^ k % 2 = x at h2 ⊢
  have h : x = 0 ∨ x = 1 := by omega
  rcases h with rfl | rfl
  · decide
  · decide
theorem rt_or (a b : Nat) : lN a ||| lN b = lN (a ||| b) := wb_inj (by rw [Int64.toBitVec_or, wb_tb, wb_tb, wb_tb, BitVec.ofNat_or])
theorem rt_sh1 {k : Nat} (hk : k < 64) : (1 : Int64) <<< ((nI k).toInt64 &&& 63) = lN (2 ^ k) := by
  have h := wb_shl 1 hk
  rw [Nat.one_mul] at h
  exact h
theorem rt_m63 {c : Nat} (hc : c < 64) : nI c &&& 63 = nI c := by
  rw [pk_andN (by omega) 6 (by decide)]
  exact congrArg nI (Nat.mod_eq_of_lt hc)
theorem rt_by : ∀ v, v < 8 → (nI v).toInt8.toInt32 = nI v := by decide +kernel
theorem rt_nb (v : Nat) (h : v < 8) : vp_nar .byte (nI v) = nI v := by
  rw [vp_nar_byte]
  exact rt_by v h
theorem rt_n0 : narrow .boolean (.int 0) = .int 0 := congrArg Value.int (by decide)
theorem rt_n1 : narrow .boolean (.int 1) = .int 1 := congrArg Value.int (by decide)
theorem rt_wo {r l c : Nat} (hc : c < 64) : ((nI r * 11) + nI l) + (nI c >>> ((6 : Int32) &&& 31)) = nI (11 * r + l) := by
  rw [pk_shrN (by omega) _ 6 (by decide), show (11 : Int32) = nI 11 from rfl, pk_mul, nI_add, nI_add]
  have h : c / 2 ^ 6 = 0 := Nat.div_eq_of_lt (by omega)
  exact congrArg nI (by omega)
theorem rt_ri (r i : Nat) : nI r * 11 + nI i = nI (11 * r + i) := by
  rw [show (11 : Int32) = nI 11 from rfl, pk_mul, nI_add]
  exact congrArg nI (by omega)
theorem rt_r0 (r : Nat) : nI r * 11 = nI (11 * r) := by
  rw [show (11 : Int32) = nI 11 from rfl, pk_mul]
  exact congrArg nI (by omega)
theorem rt_ce (r i : Nat) : nI r * 3 + nI i = nI (3 * r + i) := by
  rw [show (3 : Int32) = nI 3 from rfl, pk_mul, nI_add]
  exact congrArg nI (by omega)
theorem rt_cd : ∀ l, l < 3 → (1 : Int32) <<< ((3 * nI l) &&& 31) = nI (8 ^ l) := by decide +kernel
theorem rt_sb : ∀ pr, pr < 128 → ∀ g, g < 7 → ((((nI pr >>> (nI g &&& 31)) &&& 1) = 0) ↔ pr.testBit g = false) := by decide +kernel
theorem rt_nxt : ∀ l, l < 2 → ∀ c, c < 8 → ∀ g, g < 8 → c < 8 ^ l → nI c ||| (nI g <<< ((3 * nI l) &&& 31)) = nI (c + g * 8 ^ l) := by decide +kernel
theorem rt_dig : ∀ i, i < 2 → ∀ c, c < 8 → (nI c >>> ((3 * nI i) &&& 31)) &&& 7 = nI (c / 8 ^ i % 8) := by decide +kernel
theorem rt_pr1 : ∀ pr, pr < 128 → ∀ k, k < 7 → nI pr ||| ((1 : Int32) <<< (nI k &&& 31)) = nI (pr ||| 2 ^ k) := by decide +kernel
theorem rt_pr0 : ∀ pr, pr < 128 → ∀ k, k < 7 → nI pr &&& (((1 : Int32) <<< (nI k &&& 31)) ^^^ (-1)) = nI (pr &&& (127 - 2 ^ k)) := by decide +kernel
theorem rt_q4 : ∀ q, q < 512 → (nI q &&& 3) = nI (q % 4) ∧ (nI q &&& 3).toInt8.toInt32 = nI (q % 4) := by decide +kernel
theorem rt_qa : ∀ q, q < 512 → ((nI q >>> ((2 : Int32) &&& 31)) &&& 7).toInt8.toInt32 = nI (q / 4 % 8) := by decide +kernel
theorem rt_qb : ∀ q, q < 512 → ((nI q >>> ((5 : Int32) &&& 31)) &&& 7).toInt8.toInt32 = nI (q / 32 % 8) := by decide +kernel
def rt_b : Bool → Int32
  | true => 1
  | false => 0
theorem rt_bt : ¬ rt_b true = 0 := by decide
theorem rt_10 : ¬ (1 : Int32) = 0 := by decide
theorem rt_nf {x : Bool} (h : ¬ x = false) : x = true := by cases x <;> first | rfl | exact absurd rfl h
end
section
/-! ===== the engine over naturals: arrays as functions, words as numbers ===== -/
def rt_nu (f : Nat → Nat) (k v : Nat) : Nat → Nat := fun j => if j = k then v else f j
def rt_f (g : Nat → Nat) : Nat → Int32 := fun i => nI (g i)
def rt_l (g : Nat → Nat) : Nat → Int64 := fun i => lN (g i)
theorem rt_nus {f : Nat → Nat} {k v : Nat} : rt_nu f k v k = v := if_pos rfl
theorem rt_nun {f : Nat → Nat} {k v j : Nat} (h : j ≠ k) : rt_nu f k v j = f j := if_neg h
theorem rt_nunu (f : Nat → Nat) (k v x : Nat) : rt_nu (rt_nu f k v) k x = rt_nu f k x := by
  funext j
  by_cases h : j = k
  · rw [h, rt_nus, rt_nus]
  · rw [rt_nun h, rt_nun h, rt_nun h]
theorem rt_nue {f : Nat → Nat} {k v : Nat} (e : f k = v) : rt_nu f k v = f := by
  funext j
  by_cases h : j = k
  · rw [h, rt_nus, e]
  · rw [rt_nun h]
theorem rt_nul {f : Nat → Nat} {k v N : Nat} (hf : ∀ i, f i < N) (hv : v < N) : ∀ i, rt_nu f k v i < N := by
  intro i
  by_cases h : i = k
  · rw [h, rt_nus]
    exact hv
  · rw [rt_nun h]
    exact hf i
theorem rt_fu {g : Nat → Nat} {k v : Nat} {i x : Int32} (hi : i = nI k) (hk : k < 2 ^ 31) (hx : x = nI v) : upd (rt_f g) i.toNatClampNeg x = rt_f (rt_nu g k v) := by
  subst hi hx
  rw [nI_clamp hk]
  funext j
  by_cases h : j = k
  · subst h
    rw [pk_us]
    show nI v = nI (rt_nu g j v j)
    rw [rt_nus]
  · rw [pk_un h]
    show nI (g j) = nI (rt_nu g k v j)
    rw [rt_nun h]
theorem rt_lu {g : Nat → Nat} {k v : Nat} {i : Int32} {x : Int64} (hi : i = nI k) (hk : k < 2 ^ 31) (hx : x = lN v) : vp_updL (rt_l g) i.toNatClampNeg x = rt_l (rt_nu g k v) := by
  subst hi hx
  rw [nI_clamp hk]
  funext j
  by_cases h : j = k
  · subst h
    rw [pk_uLs]
    show lN v = lN (rt_nu g j v j)
    rw [rt_nus]
  · rw [pk_uLn h]
    show lN (g j) = lN (rt_nu g k v j)
    rw [rt_nun h]
theorem rt_fc {g : Nat → Nat} {k : Nat} (hk : k < 2 ^ 31) : rt_f g (nI k).toNatClampNeg = nI (g k) := congrArg (rt_f g) (nI_clamp hk)
theorem rt_lc {g : Nat → Nat} {k : Nat} (hk : k < 2 ^ 31) : rt_l g (nI k).toNatClampNeg = lN (g k) := congrArg (rt_l g) (nI_clamp hk)
/-! E 0 kinds, E 1 as, E 2 bs, E 3 sizes, E 4 wantedKind, E 5 wantedA, E 6 wantedB, E 7 negated -/
def rt_mt (m v : Nat) (t : Nat → Nat) : Bool := if m < 4 then decide (m = v) else if m = 7 then true else (decide (t (m - 4) = 4) || decide (t (m - 4) = v))
def rt_tt (m v : Nat) (t : Nat → Nat) : Nat → Nat := if m < 4 then t else if m = 7 then t else if t (m - 4) = 4 then rt_nu t (m - 4) v else t
def rt_ft (E : Nat → Nat → Nat) (c f : Nat) (t : Nat → Nat) : Bool := decide (E 0 f = E 4 c) && (rt_mt (E 5 c) (E 1 f) t && rt_mt (E 6 c) (E 2 f) (rt_tt (E 5 c) (E 1 f) t))
def rt_fb (E : Nat → Nat → Nat) (c f : Nat) (t : Nat → Nat) : Nat → Nat := rt_tt (E 6 c) (E 2 f) (rt_tt (E 5 c) (E 1 f) t)
def rt_bi (E : Nat → Nat → Nat) (r c : Nat) : Nat → Nat → Nat
  | 0 => fun _ => 4
  | i + 1 => if c / 8 ^ i % 8 = 7 then rt_bi E r c i else if rt_ft E (3 * r + i) (c / 8 ^ i % 8) (rt_bi E r c i) = true then rt_fb E (3 * r + i) (c / 8 ^ i % 8) (rt_bi E r c i) else rt_bi E r c i
def rt_an (pr : Nat) (E : Nat → Nat → Nat) (c : Nat) (t : Nat → Nat) : Nat → Bool
  | 0 => false
  | n + 1 => rt_an pr E c t n || (pr.testBit n && rt_ft E c n t)
def rt_nx (l c g : Nat) : Nat := c + g * 8 ^ l
def rt_x1 (pr : Nat) (E : Nat → Nat → Nat) (ce : Nat) (t : Nat → Nat) (old : Bool) (fN bn l c g : Nat) : Bool :=
  (old && (!decide (g = fN) && bn.testBit (rt_nx l c g))) || ((pr.testBit g && (!old || decide (g = fN))) && rt_ft E ce g t)
def rt_ex (pr : Nat) (E : Nat → Nat → Nat) (ce : Nat) (t : Nat → Nat) (old : Bool) (fN bn l c acc : Nat) : Nat → Nat
  | 0 => acc
  | g + 1 => if rt_x1 pr E ce t old fN bn l c g = true then rt_ex pr E ce t old fN bn l c acc g ||| 2 ^ rt_nx l c g else rt_ex pr E ce t old fN bn l c acc g
def rt_op (pr : Nat) (E : Nat → Nat → Nat) (ce : Nat) (t : Nat → Nat) (old ad : Bool) (fN : Nat) (went : Bool) : Bool :=
  if (old && !rt_ft E ce fN t) = true then went else if (old && ad) = true then false else !rt_an pr E ce t 7
def rt_e1 (pr : Nat) (E : Nat → Nat → Nat) (r l fN : Nat) (ad : Bool) (bl bn c acc : Nat) : Nat :=
  if E 7 (3 * r + l) = 0 then rt_ex pr E (3 * r + l) (rt_bi E r c l) (bl.testBit c) fN bn l c acc 7
  else if rt_op pr E (3 * r + l) (rt_bi E r c l) (bl.testBit c) ad fN (bl.testBit c && bn.testBit (rt_nx l c 7)) = true then acc ||| 2 ^ rt_nx l c 7 else acc
def rt_lv (pr : Nat) (E : Nat → Nat → Nat) (r l fN : Nat) (ad : Bool) (bl bn wl acc : Nat) : Nat → Nat
  | 0 => acc
  | c + 1 => if wl.testBit c = true then rt_e1 pr E r l fN ad bl bn c (rt_lv pr E r l fN ad bl bn wl acc c) else rt_lv pr E r l fN ad bl bn wl acc c
/-- what stood before: nothing, if all is made anew (fN = 7) -/
def rt_o (fN x : Nat) : Nat := if fN = 7 then 0 else x
def rt_W1 (pr : Nat) (E : Nat → Nat → Nat) (r fN : Nat) (ad : Bool) (w1 : Nat) : Nat := if E 3 r = 0 then 0 else rt_lv pr E r 0 fN ad (rt_o fN 1) (rt_o fN w1) 1 0 1
def rt_W2 (pr : Nat) (E : Nat → Nat → Nat) (r fN : Nat) (ad : Bool) (w1 w2 x1 : Nat) : Nat := if E 3 r ≤ 1 then 0 else rt_lv pr E r 1 fN ad (rt_o fN w1) (rt_o fN w2) x1 0 8
def rt_T (t : Nat → Int32) (d : Nat → Nat) : Prop := ∀ i, i < 3 → t i = nI (d i)
abbrev rt_S (pr : Nat) (E : Nat → Nat → Nat) (w b : Nat → Nat) (bo te : Nat → Int32) : St2 :=
  (nI pr, rt_f (E 0), rt_f (E 1), rt_f (E 2), rt_f (E 3), rt_f (E 4), rt_f (E 5), rt_f (E 6), rt_f (E 7), rt_l w, rt_l b, bo, te)
/-! bounds -/
theorem rt_ttb {m v : Nat} {t : Nat → Nat} (hv : v < 8) (ht : ∀ i, t i < 8) : ∀ i, rt_tt m v t i < 8 := by
  unfold rt_tt
  split
  · exact ht
  · split
    · exact ht
    · split
      · exact rt_nul ht hv
      · exact ht
theorem rt_bib {E : Nat → Nat → Nat} {r c : Nat} (hE : ∀ i j, E i j < 8) : ∀ n i, rt_bi E r c n i < 8 := by
  intro n
  induction n with
  | zero => exact fun _ => (by decide : 4 < 8)
  | succ n ih =>
    unfold rt_bi
    split
    · exact ih
    · split
      · exact rt_ttb (hE _ _) (rt_ttb (hE _ _) ih)
      · exact ih
theorem rt_anh {pr : Nat} {E : Nat → Nat → Nat} {c : Nat} {t : Nat → Nat} {i : Nat} (h1 : pr.testBit i = true) (h2 : rt_ft E c i t = true) : ∀ n, i < n → rt_an pr E c t n = true := by
  intro n
  induction n with
  | zero => exact fun h => absurd h (by omega)
  | succ n ih =>
    intro h
    unfold rt_an
    by_cases e : i = n
    · subst e
      rw [h1, h2]
      exact Bool.or_true _
    · rw [ih (by omega)]
      rfl
end
section
/-! ===== the small methods ===== -/
theorem rt_has {post : Int32 → Prop} {pr : Nat} {E : Nat → Nat → Nat} {w b : Nat → Nat} {bo te : Nat → Int32} {g : Nat} (hg : g < 7) (hp : pr < 128) (H1 : pr.testBit g = true → post 1) (H0 : pr.testBit g = false → post 0) :
    wpX_has post (rt_S pr E w b bo te) (nI g) :=
  br_f (nI_pos (by omega)) (pk_le 7 g (fun z => absurd z (by omega)) (fun _ => ek_if (rt_sb pr hp g hg) H0 (fun z => H1 (rt_nf z))))
theorem rt_isInB {post : Int32 → Prop} {pr : Nat} {E : Nat → Nat → Nat} {w b : Nat → Nat} {bo te : Nat → Int32} {r l c : Nat} (hr : r < 3) (hl : l < 3) (hc : c < 64) {p0 p1 p2 : Int32} (h0 : p0 = nI r) (h1 : p1 = nI l) (h2 : p2 = nI c) (H : post (rt_b ((w (11 * r + l)).testBit c))) :
    wpX_isIn post (rt_S pr E w b bo te) p0 p1 p2 := by
  subst h0 h1 h2
  unfold wpX_isIn wpX_wordOf
  dsimp only
  rw [rt_wo hc, rt_m63 hc]
  refine ⟨pk_in (11 * r + l) 33 (by omega), ?_⟩
  rw [rt_lc (by omega)]
  refine ek_if (rt_bit _ hc) (fun z => ?_) (fun z => ?_)
  · rw [z] at H
    exact H
  · rw [rt_nf z] at H
    exact H
theorem rt_wasB {post : Int32 → Prop} {pr : Nat} {E : Nat → Nat → Nat} {w b : Nat → Nat} {bo te : Nat → Int32} {r l c : Nat} (hr : r < 3) (hl : l < 3) (hc : c < 64) {p0 p1 p2 : Int32} (h0 : p0 = nI r) (h1 : p1 = nI l) (h2 : p2 = nI c) (H : post (rt_b ((b (11 * r + l)).testBit c))) :
    wpX_wasIn post (rt_S pr E w b bo te) p0 p1 p2 := by
  subst h0 h1 h2
  unfold wpX_wasIn wpX_wordOf
  dsimp only
  rw [rt_wo hc, rt_m63 hc]
  refine ⟨pk_in (11 * r + l) 33 (by omega), ?_⟩
  rw [rt_lc (by omega)]
  refine ek_if (rt_bit _ hc) (fun z => ?_) (fun z => ?_)
  · rw [z] at H
    exact H
  · rw [rt_nf z] at H
    exact H
theorem rt_put {post : St2 → Prop} {pr : Nat} {E : Nat → Nat → Nat} {w b : Nat → Nat} {bo te : Nat → Int32} {r l c acc : Nat} (hr : r < 3) (hl : l < 3) (hc : c < 64) {p0 p1 p2 : Int32} (h0 : p0 = nI r) (h1 : p1 = nI l) (h2 : p2 = nI c)
    (H : post (rt_S pr E (rt_nu w (11 * r + l) (acc ||| 2 ^ c)) b bo te)) :
    wpX_put post (rt_S pr E (rt_nu w (11 * r + l) acc) b bo te) p0 p1 p2 := by
  subst h0 h1 h2
  unfold wpX_put wpX_wordOf
  dsimp only
  rw [rt_wo hc, rt_m63 hc]
  refine ⟨pk_in (11 * r + l) 33 (by omega), pk_in (11 * r + l) 33 (by omega), ?_⟩
  refine nm_r (e' := rt_l (rt_nu w (11 * r + l) (acc ||| 2 ^ c))) ?_ H
  rw [rt_lu (k := 11 * r + l) (v := acc ||| 2 ^ c) rfl (by omega) (by rw [rt_lc (by omega), rt_sh1 hc, rt_or, rt_nus]), rt_nunu]
theorem rt_codes {post : Int32 → Prop} {l : Nat} {p : Int32} (hl : l < 3) (h : p = nI l) (H : post (nI (8 ^ l))) : wpX_codes post () p := by
  subst h
  unfold wpX_codes
  rw [rt_cd l hl]
  exact H
theorem rt_meets {post : Int32 → St2 → Prop} {pr : Nat} {E : Nat → Nat → Nat} {w b : Nat → Nat} {bo te : Nat → Int32} {m v : Nat} {d : Nat → Nat} {p0 p1 : Int32} (h0 : p0 = nI m) (h1 : p1 = nI v) (hm : m < 8) (hv : v < 8) (hd : ∀ i, d i < 8) (ht : rt_T te d)
    (H1 : rt_mt m v d = true → ∀ t, rt_T t (rt_tt m v d) → post 1 (rt_S pr E w b bo t)) (H0 : rt_mt m v d = false → ∀ t, post 0 (rt_S pr E w b bo t)) :
    wpX_meets post (rt_S pr E w b bo te) p0 p1 := by
  subst h0 h1
  have K : m < 4 ∨ m = 7 → wX_meets_11 post (nI m) (nI v) (nI pr) (rt_f (E 0)) (rt_f (E 1)) (rt_f (E 2)) (rt_f (E 3)) (rt_f (E 4)) (rt_f (E 5)) (rt_f (E 6)) (rt_f (E 7)) (rt_l w) (rt_l b) bo te := by
    intro z
    refine pk_eq m 7 (fun e => H1 ?_ te ?_) (fun e => pk_eq m v (fun e2 => H1 ?_ te ?_) (fun e2 => H0 ?_ te))
    · unfold rt_mt
      rw [if_neg (by omega), if_pos e]
    · unfold rt_tt
      rw [if_neg (by omega), if_pos e]
      exact ht
    · unfold rt_mt
      rw [if_pos (by omega)]
      exact decide_eq_true e2
    · unfold rt_tt
      rw [if_pos (by omega)]
      exact ht
    · unfold rt_mt
      rw [if_pos (by omega)]
      exact decide_eq_false e2
  refine pk_lt m 4 (fun z => K (Or.inl z)) (fun z => pk_eq m 7 (fun e => K (Or.inr e)) (fun e => nm_r (pk_sub (a := m) (b := 4) (by omega)) ?_))
  have hx : te (nI (m - 4)).toNatClampNeg = nI (d (m - 4)) := by
    rw [nI_clamp (by omega)]
    exact ht _ (by omega)
  rw [hx]
  have hd4 := hd (m - 4)
  refine ⟨pk_in (m - 4) 3 (by omega), pk_eq (d (m - 4)) 4 (fun e4 => ⟨pk_in (m - 4) 3 (by omega), nm_e (H1 ?_ _ ?_)⟩) (fun e4 => ⟨pk_in (m - 4) 3 (by omega), pk_eq (d (m - 4)) v (fun ev => H1 ?_ te ?_) (fun ev => H0 ?_ te)⟩)⟩
  · unfold rt_mt
    rw [if_neg (by omega), if_neg e, decide_eq_true e4]
    rfl
  · unfold rt_tt
    rw [if_neg (by omega), if_neg e, if_pos e4, nI_clamp (by omega), rt_by v hv]
    intro i hi
    by_cases h : i = m - 4
    · subst h
      rw [pk_us, rt_nus]
    · rw [pk_un h, rt_nun h]
      exact ht i hi
  · unfold rt_mt
    rw [if_neg (by omega), if_neg e, decide_eq_true ev, Bool.or_true]
  · unfold rt_tt
    rw [if_neg (by omega), if_neg e, if_neg e4]
    exact ht
  · unfold rt_mt
    rw [if_neg (by omega), if_neg e, decide_eq_false e4, decide_eq_false ev]
    rfl
theorem rt_fill {s te : Nat → Int32} {d : Nat → Nat} {i : Nat} {x : Int32} (hi : i < 3) (h : ∀ j, j < i → s j = nI (d j)) (hx : x = nI (d i)) : ∀ j, j < i + 1 → upd s (nI i).toNatClampNeg x j = nI (d j) := by
  intro j hj
  rw [nI_clamp (by omega)]
  by_cases e : j = i
  · rw [e, pk_us, hx]
  · rw [pk_un e]
    exact h j (by omega)
theorem rt_94 {post : Int32 → St2 → Prop} {pr : Nat} {E : Nat → Nat → Nat} {w b : Nat → Nat} {bo te : Nat → Int32} {d : Nat → Nat} (hd : ∀ i, d i < 8) (ht : rt_T te d) (H : ∀ bo', rt_T bo' d → post 1 (rt_S pr E w b bo' te)) :
    ∃ n, wX_fits_94 post 1 1 (nI pr) n 0 (rt_f (E 0)) (rt_f (E 1)) (rt_f (E 2)) (rt_f (E 3)) (rt_f (E 4)) (rt_f (E 5)) (rt_f (E 6)) (rt_f (E 7)) (rt_l w) (rt_l b) bo te :=
  pk_loop (fun n i s => wX_fits_94 post 1 1 (nI pr) n (nI i) (rt_f (E 0)) (rt_f (E 1)) (rt_f (E 2)) (rt_f (E 3)) (rt_f (E 4)) (rt_f (E 5)) (rt_f (E 6)) (rt_f (E 7)) (rt_l w) (rt_l b) s te) (fun i s => ∀ j, j < i → s j = nI (d j)) 3 0 bo (by omega) (fun j hj => absurd hj (by omega))
    (fun n s h => pk_le 3 3 (fun _ => ⟨rt_n1, H s h⟩) (fun z => absurd z (by omega)))
    (fun n i s hi h hw => pk_le 3 i (fun z => absurd z (by omega)) (fun _ => br_f rt_10 (br_f rt_10 ⟨pk_in i 3 hi, pk_in i 3 hi, nm_e (nm_r (nI_1 i) (hw _ (rt_fill (te := te) hi h (by rw [nI_clamp (by omega), ht i hi, rt_nb _ (hd i)]))))⟩)))
theorem rt_20 {post : Int32 → St2 → Prop} {pr : Nat} {E : Nat → Nat → Nat} {w b : Nat → Nat} {bo te : Nat → Int32} {d : Nat → Nat} {c f : Nat} {kp : Int32} (hc : c < 9) (hf : f < 7) (hE : ∀ i j, E i j < 8) (hd : ∀ i, d i < 8) (hb : rt_T bo d)
    (H1 : rt_mt (E 5 c) (E 1 f) d = true → rt_mt (E 6 c) (E 2 f) (rt_tt (E 5 c) (E 1 f) d) = true → ∀ t, rt_T t (rt_fb E c f d) → ∃ n, wX_fits_94 post kp 1 (nI pr) n 0 (rt_f (E 0)) (rt_f (E 1)) (rt_f (E 2)) (rt_f (E 3)) (rt_f (E 4)) (rt_f (E 5)) (rt_f (E 6)) (rt_f (E 7)) (rt_l w) (rt_l b) bo t)
    (H0 : (rt_mt (E 5 c) (E 1 f) d && rt_mt (E 6 c) (E 2 f) (rt_tt (E 5 c) (E 1 f) d)) = false → ∀ t, post 0 (rt_S pr E w b bo t)) :
    ∃ n, wX_fits_20 post (nI c) (nI f) kp (nI pr) n 0 (rt_f (E 0)) (rt_f (E 1)) (rt_f (E 2)) (rt_f (E 3)) (rt_f (E 4)) (rt_f (E 5)) (rt_f (E 6)) (rt_f (E 7)) (rt_l w) (rt_l b) bo te := by
  have Z : (rt_mt (E 5 c) (E 1 f) d && rt_mt (E 6 c) (E 2 f) (rt_tt (E 5 c) (E 1 f) d)) = false → ∀ t, ∃ n, wX_fits_94 post kp 0 (nI pr) n 0 (rt_f (E 0)) (rt_f (E 1)) (rt_f (E 2)) (rt_f (E 3)) (rt_f (E 4)) (rt_f (E 5)) (rt_f (E 6)) (rt_f (E 7)) (rt_l w) (rt_l b) bo t :=
    fun h t => ⟨1, br_f (by decide) (br_t rfl ⟨rt_n0, H0 h t⟩)⟩
  refine pk_loop (fun n i s => wX_fits_20 post (nI c) (nI f) kp (nI pr) n (nI i) (rt_f (E 0)) (rt_f (E 1)) (rt_f (E 2)) (rt_f (E 3)) (rt_f (E 4)) (rt_f (E 5)) (rt_f (E 6)) (rt_f (E 7)) (rt_l w) (rt_l b) bo s) (fun i s => ∀ j, j < i → s j = nI (d j)) 3 0 te (by omega) (fun j hj => absurd hj (by omega)) ?_ ?_
  · intro n s h
    refine pk_le 3 3 (fun _ => ⟨pk_in c 9 hc, pk_in f 7 hf, ?_⟩) (fun z => absurd z (by omega))
    refine rt_meets (m := E 5 c) (v := E 1 f) (d := d) (rt_fc (by omega)) (rt_fc (by omega)) (hE _ _) (hE _ _) hd h (fun e1 t ht => ?_) (fun e1 t => br_t rfl (Z (by rw [e1]; rfl) t))
    refine br_f rt_10 ⟨pk_in c 9 hc, pk_in f 7 hf, ?_⟩
    refine rt_meets (m := E 6 c) (v := E 2 f) (d := rt_tt (E 5 c) (E 1 f) d) (rt_fc (by omega)) (rt_fc (by omega)) (hE _ _) (hE _ _) (rt_ttb (hE _ _) hd) ht (fun e2 t' ht' => br_f rt_10 (H1 e1 e2 t' ht')) (fun e2 t' => br_t rfl (Z (by rw [e1, e2]; rfl) t'))
  · intro n i s hi h hw
    exact pk_le 3 i (fun z => absurd z (by omega)) (fun _ => ⟨pk_in i 3 hi, pk_in i 3 hi, nm_e (nm_r (nI_1 i) (hw _ (rt_fill (te := te) hi h (by rw [nI_clamp (by omega), hb i hi, rt_nb _ (hd i)]))))⟩)
theorem rt_fits {post : Int32 → St2 → Prop} {pr : Nat} {E : Nat → Nat → Nat} {w b : Nat → Nat} {bo te : Nat → Int32} {d : Nat → Nat} {c f : Nat} {kp p0 p1 : Int32} (h0 : p0 = nI c) (h1 : p1 = nI f) (hc : c < 9) (hf : f < 7) (hE : ∀ i j, E i j < 8) (hd : ∀ i, d i < 8) (hb : rt_T bo d)
    (H1 : rt_ft E c f d = true → ∀ t, rt_T t (rt_fb E c f d) → ∃ n, wX_fits_94 post kp 1 (nI pr) n 0 (rt_f (E 0)) (rt_f (E 1)) (rt_f (E 2)) (rt_f (E 3)) (rt_f (E 4)) (rt_f (E 5)) (rt_f (E 6)) (rt_f (E 7)) (rt_l w) (rt_l b) bo t)
    (H0 : rt_ft E c f d = false → ∀ t, post 0 (rt_S pr E w b bo t)) :
    wpX_fits post (rt_S pr E w b bo te) p0 p1 kp := by
  subst h0 h1
  have b1 := hE 0 f
  have b2 := hE 4 c
  refine And.intro (pk_in f 7 hf) (And.intro (pk_in c 9 hc) (pk_eq (E 0 f) (E 4 c) (fun e => rt_20 hc hf hE hd hb (fun e1 e2 => H1 ?_) (fun e1 => H0 ?_)) (fun e => H0 ?_ te) (rt_fc (by omega)) (rt_fc (by omega))))
  · unfold rt_ft
    rw [decide_eq_true e, e1, e2]
    rfl
  · unfold rt_ft
    rw [e1, Bool.and_false]
  · unfold rt_ft
    rw [decide_eq_false e]
    rfl
theorem rt_fits0 {post : Int32 → St2 → Prop} {pr : Nat} {E : Nat → Nat → Nat} {w b : Nat → Nat} {bo te : Nat → Int32} {d : Nat → Nat} {c f : Nat} {p0 p1 : Int32} (h0 : p0 = nI c) (h1 : p1 = nI f) (hc : c < 9) (hf : f < 7) (hE : ∀ i j, E i j < 8) (hd : ∀ i, d i < 8) (hb : rt_T bo d)
    (H1 : rt_ft E c f d = true → ∀ t, post 1 (rt_S pr E w b bo t)) (H0 : rt_ft E c f d = false → ∀ t, post 0 (rt_S pr E w b bo t)) :
    wpX_fits post (rt_S pr E w b bo te) p0 p1 0 :=
  rt_fits h0 h1 hc hf hE hd hb (fun e t _ => ⟨1, br_f (by decide) (br_f rt_10 (br_t rfl ⟨rt_n1, H1 e t⟩))⟩) H0
theorem rt_fits1 {post : Int32 → St2 → Prop} {pr : Nat} {E : Nat → Nat → Nat} {w b : Nat → Nat} {bo te : Nat → Int32} {d : Nat → Nat} {c f : Nat} {p0 p1 : Int32} (h0 : p0 = nI c) (h1 : p1 = nI f) (hc : c < 9) (hf : f < 7) (hE : ∀ i j, E i j < 8) (hd : ∀ i, d i < 8) (hb : rt_T bo d)
    (H1 : rt_ft E c f d = true → ∀ bo' t, rt_T bo' (rt_fb E c f d) → post 1 (rt_S pr E w b bo' t)) (H0 : rt_ft E c f d = false → ∀ t, post 0 (rt_S pr E w b bo t)) :
    wpX_fits post (rt_S pr E w b bo te) p0 p1 1 :=
  rt_fits h0 h1 hc hf hE hd hb (fun e t ht => rt_94 (rt_ttb (hE _ _) (rt_ttb (hE _ _) hd)) ht (fun bo' h => H1 e bo' t h)) H0
theorem rt_26 {post : St2 → Prop} {pr : Nat} {E : Nat → Nat → Nat} {w b : Nat → Nat} {bo te : Nat → Int32} {r l c : Nat} (hr : r < 3) (hl : l < 2) (hc : c < 8) (hE : ∀ i j, E i j < 8) (hb : rt_T bo (rt_bi E r c 0))
    (H : ∀ bo' t, rt_T bo' (rt_bi E r c l) → post (rt_S pr E w b bo' t)) :
    ∃ n, wX_bindAlong_26 post (nI r) (nI l) (nI c) n 0 (nI pr) (rt_f (E 0)) (rt_f (E 1)) (rt_f (E 2)) (rt_f (E 3)) (rt_f (E 4)) (rt_f (E 5)) (rt_f (E 6)) (rt_f (E 7)) (rt_l w) (rt_l b) bo te := by
  refine pk_loop (σ := (Nat → Int32) × (Nat → Int32)) (fun n i s => wX_bindAlong_26 post (nI r) (nI l) (nI c) n (nI i) (nI pr) (rt_f (E 0)) (rt_f (E 1)) (rt_f (E 2)) (rt_f (E 3)) (rt_f (E 4)) (rt_f (E 5)) (rt_f (E 6)) (rt_f (E 7)) (rt_l w) (rt_l b) s.1 s.2) (fun i s => rt_T s.1 (rt_bi E r c i)) l 0 (bo, te) (by omega) hb ?_ ?_
  · intro n s h
    exact pk_le l l (fun _ => H s.1 s.2 h) (fun z => absurd z (by omega))
  · intro n i s hi h hw
    have h8 : c / 8 ^ i % 8 < 8 := Nat.mod_lt _ (by decide)
    refine pk_le l i (fun z => absurd z (by omega)) (fun _ => nm_r (rt_dig i (by omega) c hc) (pk_eq (c / 8 ^ i % 8) 7 (fun e => nm_r (nI_1 i) (hw s ?_)) (fun e => ?_)))
    · show rt_T s.1 (rt_bi E r c (i + 1))
      unfold rt_bi
      rw [if_pos e]
      exact h
    · refine rt_fits1 (c := 3 * r + i) (f := c / 8 ^ i % 8) (d := rt_bi E r c i) (rt_ce r i) rfl (by omega) (by omega) hE (rt_bib hE i) h (fun e1 bo' t hT => nm_r (nI_1 i) (hw (bo', t) ?_)) (fun e1 t => nm_r (nI_1 i) (hw (s.1, t) ?_))
      · show rt_T bo' (rt_bi E r c (i + 1))
        unfold rt_bi
        rw [if_neg e, if_pos e1]
        exact hT
      · show rt_T s.1 (rt_bi E r c (i + 1))
        unfold rt_bi
        rw [if_neg e, if_neg (by rw [e1]; decide)]
        exact h
theorem rt_bind {post : St2 → Prop} {pr : Nat} {E : Nat → Nat → Nat} {w b : Nat → Nat} {bo te : Nat → Int32} {r l c : Nat} (hr : r < 3) (hl : l < 2) (hc : c < 8) (hE : ∀ i j, E i j < 8)
    (H : ∀ bo' t, rt_T bo' (rt_bi E r c l) → post (rt_S pr E w b bo' t)) :
    wpX_bindAlong post (rt_S pr E w b bo te) (nI r) (nI l) (nI c) :=
  pk_loop (fun n i s => wX_bindAlong_3 post (nI r) (nI l) (nI c) (nI pr) n (nI i) (rt_f (E 0)) (rt_f (E 1)) (rt_f (E 2)) (rt_f (E 3)) (rt_f (E 4)) (rt_f (E 5)) (rt_f (E 6)) (rt_f (E 7)) (rt_l w) (rt_l b) s te) (fun i s => ∀ j, j < i → s j = nI 4) 3 0 bo (by omega) (fun j hj => absurd hj (by omega))
    (fun n s h => pk_le 3 3 (fun _ => rt_26 hr hl hc hE h H) (fun z => absurd z (by omega)))
    (fun n i s hi h hw => pk_le 3 i (fun z => absurd z (by omega)) (fun _ => ⟨pk_in i 3 hi, nm_e (nm_r (nI_1 i) (hw _ (rt_fill (te := te) (d := fun _ => 4) hi h rfl)))⟩))
theorem rt_any {post : Int32 → St2 → Prop} {pr : Nat} {E : Nat → Nat → Nat} {w b : Nat → Nat} {bo te : Nat → Int32} {d : Nat → Nat} {c : Nat} (hc : c < 9) (hp : pr < 128) (hE : ∀ i j, E i j < 8) (hd : ∀ i, d i < 8) (hb : rt_T bo d)
    (H1 : rt_an pr E c d 7 = true → ∀ t, post 1 (rt_S pr E w b bo t)) (H0 : rt_an pr E c d 7 = false → ∀ t, post 0 (rt_S pr E w b bo t)) :
    wpX_anyFits post (rt_S pr E w b bo te) (nI c) := by
  refine pk_loop (fun n i s => wX_anyFits_2 post (nI c) n (nI i) (nI pr) (rt_f (E 0)) (rt_f (E 1)) (rt_f (E 2)) (rt_f (E 3)) (rt_f (E 4)) (rt_f (E 5)) (rt_f (E 6)) (rt_f (E 7)) (rt_l w) (rt_l b) bo s) (fun i s => rt_an pr E c d i = false) 7 0 te (by omega) rfl ?_ ?_
  · intro n s h
    exact pk_le 7 7 (fun _ => H0 h s) (fun z => absurd z (by omega))
  · intro n i s hi h hw
    refine pk_le 7 i (fun z => absurd z (by omega)) (fun _ => rt_has hi hp (fun e => br_f rt_10 (rt_fits0 rfl rfl hc hi hE hd hb (fun e1 t => br_f rt_10 (H1 (rt_anh e e1 7 hi) t)) (fun e1 t => br_t rfl (nm_r (nI_1 i) (hw t ?_))))) (fun e => br_t rfl (nm_r (nI_1 i) (hw s ?_))))
    · show rt_an pr E c d (i + 1) = false
      unfold rt_an
      rw [h, e1, Bool.and_false]
      rfl
    · show rt_an pr E c d (i + 1) = false
      unfold rt_an
      rw [h, e]
      rfl
end
section
/-! ===== extend: a condition that is negated ===== -/
theorem rt_nx64 {l c g : Nat} (hl : l < 2) (hc : c < 8 ^ l) (hg : g < 8) : rt_nx l c g < 64 := by
  unfold rt_nx
  have h : l = 0 ∨ l = 1 := by omega
  rcases h with rfl | rfl <;> omega
theorem rt_n95 {post : St2 → Prop} {pr : Nat} {E : Nat → Nat → Nat} {w b : Nat → Nat} {bo te : Nat → Int32} {r l c acc : Nat} {o : Bool} (hr : r < 3) (hl : l < 2) (hc : c < 64)
    (H : post (rt_S pr E (rt_nu w (11 * r + (l + 1)) (if o = true then acc ||| 2 ^ c else acc)) b bo te)) :
    wX_extendNegated_95 post (nI l) (nI r) (nI c) (rt_b o) (nI pr) (rt_f (E 0)) (rt_f (E 1)) (rt_f (E 2)) (rt_f (E 3)) (rt_f (E 4)) (rt_f (E 5)) (rt_f (E 6)) (rt_f (E 7)) (rt_l (rt_nu w (11 * r + (l + 1)) acc)) (rt_l b) bo te := by
  cases o with
  | true => exact br_f rt_bt (rt_put hr (by omega) hc rfl (nI_1 l) rfl H)
  | false => exact br_t rfl H
theorem rt_n80 {post : St2 → Prop} {pr : Nat} {E : Nat → Nat → Nat} {w b : Nat → Nat} {bo te : Nat → Int32} {d : Nat → Nat} {r l c ce acc : Nat} (hr : r < 3) (hl : l < 2) (hc : c < 64) (hce : ce < 9) (hp : pr < 128) (hE : ∀ i j, E i j < 8) (hd : ∀ i, d i < 8) (hb : rt_T bo d)
    (H : ∀ bo' t, post (rt_S pr E (rt_nu w (11 * r + (l + 1)) (if (!rt_an pr E ce d 7) = true then acc ||| 2 ^ c else acc)) b bo' t)) :
    wX_extendNegated_80 post (nI ce) (nI l) (nI r) (nI c) (nI pr) (rt_f (E 0)) (rt_f (E 1)) (rt_f (E 2)) (rt_f (E 3)) (rt_f (E 4)) (rt_f (E 5)) (rt_f (E 6)) (rt_f (E 7)) (rt_l (rt_nu w (11 * r + (l + 1)) acc)) (rt_l b) bo te := by
  refine rt_any hce hp hE hd hb (fun e t => br_f rt_10 ?_) (fun e t => br_t rfl ?_)
  · refine rt_n95 (o := false) hr hl hc ?_
    have h := H bo t
    rw [e] at h
    exact h
  · refine rt_n95 (o := true) hr hl hc ?_
    have h := H bo t
    rw [e] at h
    exact h
theorem rt_n64 {post : St2 → Prop} {pr : Nat} {E : Nat → Nat → Nat} {w b : Nat → Nat} {bo te : Nat → Int32} {d : Nat → Nat} {r l c ce acc : Nat} {old ad : Bool} (hr : r < 3) (hl : l < 2) (hc : c < 64) (hce : ce < 9) (hp : pr < 128) (hE : ∀ i j, E i j < 8) (hd : ∀ i, d i < 8) (hb : rt_T bo d)
    (H : ∀ bo' t, post (rt_S pr E (rt_nu w (11 * r + (l + 1)) (if (if (old && ad) = true then false else !rt_an pr E ce d 7) = true then acc ||| 2 ^ c else acc)) b bo' t)) :
    wX_extendNegated_64 post (nI ce) (nI l) (rt_b old) (rt_b ad) (nI r) (nI c) (nI pr) (rt_f (E 0)) (rt_f (E 1)) (rt_f (E 2)) (rt_f (E 3)) (rt_f (E 4)) (rt_f (E 5)) (rt_f (E 6)) (rt_f (E 7)) (rt_l (rt_nu w (11 * r + (l + 1)) acc)) (rt_l b) bo te := by
  cases old with
  | false => exact br_t rfl (rt_n80 hr hl hc hce hp hE hd hb H)
  | true =>
    refine br_f rt_bt ?_
    cases ad with
    | false => exact br_t rfl (rt_n80 hr hl hc hce hp hE hd hb H)
    | true => exact br_f rt_bt (rt_n95 (o := false) hr hl hc (H bo te))
theorem rt_n39 {post : St2 → Prop} {pr : Nat} {E : Nat → Nat → Nat} {w b : Nat → Nat} {bo te : Nat → Int32} {d : Nat → Nat} {r l c ce acc fN : Nat} {fI : Int32} {old ad went : Bool} (hr : r < 3) (hl : l < 2) (hc : c < 64) (hce : ce < 9) (hp : pr < 128) (hE : ∀ i j, E i j < 8) (hd : ∀ i, d i < 8) (hb : rt_T bo d)
    (hf : old = true → fN < 7 ∧ fI = nI fN)
    (H : ∀ bo' t, post (rt_S pr E (rt_nu w (11 * r + (l + 1)) (if rt_op pr E ce d old ad fN went = true then acc ||| 2 ^ c else acc)) b bo' t)) :
    wX_extendNegated_39 post (nI ce) (nI l) (rt_b old) fI (rt_b ad) (nI r) (nI c) (rt_b went) (nI pr) (rt_f (E 0)) (rt_f (E 1)) (rt_f (E 2)) (rt_f (E 3)) (rt_f (E 4)) (rt_f (E 5)) (rt_f (E 6)) (rt_f (E 7)) (rt_l (rt_nu w (11 * r + (l + 1)) acc)) (rt_l b) bo te := by
  cases old with
  | false => exact br_t rfl (rt_n64 (old := false) (ad := ad) hr hl hc hce hp hE hd hb H)
  | true =>
    obtain ⟨f7, fe⟩ := hf rfl
    refine br_f rt_bt (rt_fits0 rfl fe hce f7 hE hd hb (fun e t => br_f rt_10 (rt_n64 (old := true) (ad := ad) hr hl hc hce hp hE hd hb (fun bo' t' => ?_))) (fun e t => br_t rfl (rt_n95 hr hl hc ?_)))
    · have h := H bo' t'
      unfold rt_op at h
      rw [e] at h
      exact h
    · have h := H bo t
      unfold rt_op at h
      rw [e] at h
      exact h
theorem rt_neg {post : St2 → Prop} {pr : Nat} {E : Nat → Nat → Nat} {w b : Nat → Nat} {bo te : Nat → Int32} {d : Nat → Nat} {r l c acc fN : Nat} {fI : Int32} {old ad : Bool} (hr : r < 3) (hl : l < 2) (hc8 : c < 8) (hc : c < 8 ^ l) (hp : pr < 128) (hE : ∀ i j, E i j < 8) (hd : ∀ i, d i < 8) (hb : rt_T bo d)
    (hf : old = true → fN < 7 ∧ fI = nI fN)
    (H : ∀ bo' t, post (rt_S pr E (rt_nu w (11 * r + (l + 1)) (if rt_op pr E (3 * r + l) d old ad fN (old && (b (11 * r + (l + 1))).testBit (rt_nx l c 7)) = true then acc ||| 2 ^ rt_nx l c 7 else acc)) b bo' t)) :
    wpX_extendNegated post (rt_S pr E (rt_nu w (11 * r + (l + 1)) acc) b bo te) (nI (3 * r + l)) (nI c) (nI l) (rt_b old) fI (rt_b ad) := by
  have hn : rt_nx l c 7 < 64 := rt_nx64 hl hc (by omega)
  have e7 : nI (3 * r + l) / 3 = nI r := by
    rw [show (3 : Int32) = nI 3 from rfl, pk_div (by omega) (by omega) (by omega)]
    exact congrArg nI (by omega)
  have e8 : nI c ||| ((7 : Int32) <<< ((3 * nI l) &&& 31)) = nI (rt_nx l c 7) := rt_nxt l hl c hc8 7 (by omega) hc
  refine And.intro (by decide) (nm_r e7 (nm_r e8 ?_))
  cases old with
  | false => exact br_t rfl (rt_n39 (went := false) hr hl hn (by omega) hp hE hd hb hf H)
  | true =>
    refine br_f rt_bt (rt_wasB hr (by omega) hn rfl (nI_1 l) rfl ?_)
    have K : ∀ o : Bool, (b (11 * r + (l + 1))).testBit (rt_nx l c 7) = o → wX_extendNegated_39 post (nI (3 * r + l)) (nI l) (rt_b true) fI (rt_b ad) (nI r) (nI (rt_nx l c 7)) (rt_b o) (nI pr) (rt_f (E 0)) (rt_f (E 1)) (rt_f (E 2)) (rt_f (E 3)) (rt_f (E 4)) (rt_f (E 5)) (rt_f (E 6)) (rt_f (E 7)) (rt_l (rt_nu w (11 * r + (l + 1)) acc)) (rt_l b) bo te := by
      intro o ho
      rw [ho] at H
      exact rt_n39 hr hl hn (by omega) hp hE hd hb hf H
    cases ho : (b (11 * r + (l + 1))).testBit (rt_nx l c 7) with
    | false => exact br_t rfl (K false ho)
    | true => exact br_f rt_bt (K true ho)
/-! ===== extend: a condition that wants a fact ===== -/
theorem rt_x126 {post : St2 → Prop} {J : (Int32 → Int32 → (Nat → Int32) → (Nat → Int32) → (Nat → Int32) → (Nat → Int32) → (Nat → Int32) → (Nat → Int32) → (Nat → Int32) → (Nat → Int32) → (Nat → Int64) → (Nat → Int64) → (Nat → Int32) → (Nat → Int32) → Prop)} {pr : Nat} {E : Nat → Nat → Nat} {w b : Nat → Nat} {bo te : Nat → Int32} {d : Nat → Nat} {r l ce g nx acc : Nat} {x3 x4 x7 : Int32} {kept look : Bool} (hr : r < 3) (hl : l < 2) (hn : nx < 64) (hg : g < 7) (hce : ce < 9) (hE : ∀ i j, E i j < 8) (hd : ∀ i, d i < 8) (hb : rt_T bo d)
    (H1 : (kept || (look && rt_ft E ce g d)) = true → ∀ t, J (nI (g + 1)) (nI pr) (rt_f (E 0)) (rt_f (E 1)) (rt_f (E 2)) (rt_f (E 3)) (rt_f (E 4)) (rt_f (E 5)) (rt_f (E 6)) (rt_f (E 7)) (rt_l (rt_nu w (11 * r + (l + 1)) (acc ||| 2 ^ nx))) (rt_l b) bo t)
    (H0 : (kept || (look && rt_ft E ce g d)) = false → ∀ t, J (nI (g + 1)) (nI pr) (rt_f (E 0)) (rt_f (E 1)) (rt_f (E 2)) (rt_f (E 3)) (rt_f (E 4)) (rt_f (E 5)) (rt_f (E 6)) (rt_f (E 7)) (rt_l (rt_nu w (11 * r + (l + 1)) acc)) (rt_l b) bo t) :
    wX_extend_126 post J (nI r) (nI l) x3 x4 (nI ce) x7 (nI g) (nI nx) (rt_b kept) (rt_b look) (nI pr) (rt_f (E 0)) (rt_f (E 1)) (rt_f (E 2)) (rt_f (E 3)) (rt_f (E 4)) (rt_f (E 5)) (rt_f (E 6)) (rt_f (E 7)) (rt_l (rt_nu w (11 * r + (l + 1)) acc)) (rt_l b) bo te := by
  have P : (kept || (look && rt_ft E ce g d)) = true → ∀ t, wX_extend_150 post J (nI r) (nI l) x3 x4 (nI ce) x7 (nI g) (nI nx) (nI pr) (rt_f (E 0)) (rt_f (E 1)) (rt_f (E 2)) (rt_f (E 3)) (rt_f (E 4)) (rt_f (E 5)) (rt_f (E 6)) (rt_f (E 7)) (rt_l (rt_nu w (11 * r + (l + 1)) acc)) (rt_l b) bo t :=
    fun h t => rt_put hr (by omega) hn rfl (nI_1 l) rfl (nm_r (nI_1 g) (H1 h t))
  cases kept with
  | true => exact br_f rt_bt (P rfl te)
  | false =>
    refine br_t rfl ?_
    cases look with
    | false => exact br_t rfl (nm_r (nI_1 g) (H0 rfl te))
    | true => exact br_f rt_bt (rt_fits0 rfl rfl hce hg hE hd hb (fun e t => br_f rt_10 (P (by rw [e]; rfl) t)) (fun e t => br_t rfl (nm_r (nI_1 g) (H0 (by rw [e]; rfl) t))))
theorem rt_x98 {post : St2 → Prop} {J : (Int32 → Int32 → (Nat → Int32) → (Nat → Int32) → (Nat → Int32) → (Nat → Int32) → (Nat → Int32) → (Nat → Int32) → (Nat → Int32) → (Nat → Int32) → (Nat → Int64) → (Nat → Int64) → (Nat → Int32) → (Nat → Int32) → Prop)} {pr : Nat} {E : Nat → Nat → Nat} {w b : Nat → Nat} {bo te : Nat → Int32} {d : Nat → Nat} {r l ce g nx acc fN : Nat} {x3 fI : Int32} {kept old : Bool} (hr : r < 3) (hl : l < 2) (hn : nx < 64) (hg : g < 7) (hce : ce < 9) (hp : pr < 128) (hE : ∀ i j, E i j < 8) (hd : ∀ i, d i < 8) (hb : rt_T bo d)
    (hf : nI g = fI ↔ g = fN)
    (H1 : (kept || ((pr.testBit g && (!old || decide (g = fN))) && rt_ft E ce g d)) = true → ∀ t, J (nI (g + 1)) (nI pr) (rt_f (E 0)) (rt_f (E 1)) (rt_f (E 2)) (rt_f (E 3)) (rt_f (E 4)) (rt_f (E 5)) (rt_f (E 6)) (rt_f (E 7)) (rt_l (rt_nu w (11 * r + (l + 1)) (acc ||| 2 ^ nx))) (rt_l b) bo t)
    (H0 : (kept || ((pr.testBit g && (!old || decide (g = fN))) && rt_ft E ce g d)) = false → ∀ t, J (nI (g + 1)) (nI pr) (rt_f (E 0)) (rt_f (E 1)) (rt_f (E 2)) (rt_f (E 3)) (rt_f (E 4)) (rt_f (E 5)) (rt_f (E 6)) (rt_f (E 7)) (rt_l (rt_nu w (11 * r + (l + 1)) acc)) (rt_l b) bo t) :
    wX_extend_98 post J (nI r) (nI l) x3 fI (nI ce) (rt_b old) (nI g) (nI nx) (rt_b kept) (nI pr) (rt_f (E 0)) (rt_f (E 1)) (rt_f (E 2)) (rt_f (E 3)) (rt_f (E 4)) (rt_f (E 5)) (rt_f (E 6)) (rt_f (E 7)) (rt_l (rt_nu w (11 * r + (l + 1)) acc)) (rt_l b) bo te := by
  have K : ∀ look : Bool, (pr.testBit g && (!old || decide (g = fN))) = look → wX_extend_126 post J (nI r) (nI l) x3 fI (nI ce) (rt_b old) (nI g) (nI nx) (rt_b kept) (rt_b look) (nI pr) (rt_f (E 0)) (rt_f (E 1)) (rt_f (E 2)) (rt_f (E 3)) (rt_f (E 4)) (rt_f (E 5)) (rt_f (E 6)) (rt_f (E 7)) (rt_l (rt_nu w (11 * r + (l + 1)) acc)) (rt_l b) bo te := by
    intro look e
    rw [e] at H1 H0
    exact rt_x126 hr hl hn hg hce hE hd hb H1 H0
  refine rt_has hg hp (fun e => br_f rt_10 ?_) (fun e => br_t rfl (K false (by rw [e]; rfl)))
  cases old with
  | false => exact br_t rfl (K true (by rw [e]; rfl))
  | true => exact br_f rt_bt (ek_if hf (fun z => K true (by rw [e, decide_eq_true z]; rfl)) (fun z => K false (by rw [e, decide_eq_false z]; rfl)))
theorem rt_x51 {post : St2 → Prop} {pr : Nat} {E : Nat → Nat → Nat} {w b : Nat → Nat} {bo te : Nat → Int32} {d : Nat → Nat} {r l c ce acc fN : Nat} {fI : Int32} {old : Bool} (hr : r < 3) (hl : l < 2) (hc8 : c < 8) (hc : c < 8 ^ l) (hce : ce < 9) (hp : pr < 128) (hE : ∀ i j, E i j < 8) (hd : ∀ i, d i < 8) (hb : rt_T bo d)
    (hf : ∀ g, g < 7 → (nI g = fI ↔ g = fN))
    (H : ∀ t, post (rt_S pr E (rt_nu w (11 * r + (l + 1)) (rt_ex pr E ce d old fN (b (11 * r + (l + 1))) l c acc 7)) b bo t)) :
    ∃ n, wX_extend_51 post (nI r) (nI l) (nI c) fI (nI ce) (rt_b old) n 0 (nI pr) (rt_f (E 0)) (rt_f (E 1)) (rt_f (E 2)) (rt_f (E 3)) (rt_f (E 4)) (rt_f (E 5)) (rt_f (E 6)) (rt_f (E 7)) (rt_l (rt_nu w (11 * r + (l + 1)) acc)) (rt_l b) bo te := by
  refine pk_loop (fun n i s => wX_extend_51 post (nI r) (nI l) (nI c) fI (nI ce) (rt_b old) n (nI i) (nI pr) (rt_f (E 0)) (rt_f (E 1)) (rt_f (E 2)) (rt_f (E 3)) (rt_f (E 4)) (rt_f (E 5)) (rt_f (E 6)) (rt_f (E 7)) (rt_l (rt_nu w (11 * r + (l + 1)) (rt_ex pr E ce d old fN (b (11 * r + (l + 1))) l c acc i))) (rt_l b) bo s) (fun _ _ => True) 7 0 te (by omega) trivial ?_ ?_
  · intro n s _
    exact pk_le 7 7 (fun _ => H s) (fun z => absurd z (by omega))
  · intro n i s hi _ hw
    have hn : rt_nx l c i < 64 := rt_nx64 hl hc (by omega)
    have e9 : nI c ||| (nI i <<< ((3 * nI l) &&& 31)) = nI (rt_nx l c i) := rt_nxt l hl c hc8 i (by omega) hc
    have K : ∀ kept : Bool, (old && (!decide (i = fN) && (b (11 * r + (l + 1))).testBit (rt_nx l c i))) = kept →
        wX_extend_98 post (wX_extend_51 post (nI r) (nI l) (nI c) fI (nI ce) (rt_b old) n) (nI r) (nI l) (nI c) fI (nI ce) (rt_b old) (nI i) (nI (rt_nx l c i)) (rt_b kept) (nI pr) (rt_f (E 0)) (rt_f (E 1)) (rt_f (E 2)) (rt_f (E 3)) (rt_f (E 4)) (rt_f (E 5)) (rt_f (E 6)) (rt_f (E 7)) (rt_l (rt_nu w (11 * r + (l + 1)) (rt_ex pr E ce d old fN (b (11 * r + (l + 1))) l c acc i))) (rt_l b) bo s := by
      intro kept e
      refine rt_x98 hr hl hn hi hce hp hE hd hb (hf i hi) (fun h t => ?_) (fun h t => ?_)
      · have x := hw t trivial
        unfold rt_ex at x
        unfold rt_x1 at x
        rw [e, if_pos h] at x
        exact x
      · have x := hw t trivial
        unfold rt_ex at x
        unfold rt_x1 at x
        rw [e, if_neg (by rw [h]; decide)] at x
        exact x
    refine pk_le 7 i (fun z => absurd z (by omega)) (fun _ => nm_r e9 ?_)
    cases old with
    | false => exact br_t rfl (K false rfl)
    | true =>
      refine br_f rt_bt (ek_if (hf i hi) (fun z => K false (by rw [decide_eq_true z]; rfl)) (fun z => rt_wasB hr (by omega) hn rfl (nI_1 l) rfl ?_))
      cases ho : (b (11 * r + (l + 1))).testBit (rt_nx l c i) with
      | false => exact br_t rfl (K false (by rw [ho, Bool.and_false, Bool.and_false]))
      | true => exact br_f rt_bt (K true (by rw [ho, decide_eq_false z]; rfl))
theorem rt_extend {post : St2 → Prop} {pr : Nat} {E : Nat → Nat → Nat} {w b : Nat → Nat} {bo te : Nat → Int32} {r l c acc fN : Nat} {fI : Int32} {ad : Bool} (hr : r < 3) (hl : l < 2) (hc : c < 8 ^ l) (hp : pr < 128) (hE : ∀ i j, E i j < 8)
    (hf : ∀ g, g < 7 → (nI g = fI ↔ g = fN)) (hfo : (b (11 * r + l)).testBit c = true → fN < 7 ∧ fI = nI fN)
    (H : ∀ bo' t, post (rt_S pr E (rt_nu w (11 * r + (l + 1)) (rt_e1 pr E r l fN ad (b (11 * r + l)) (b (11 * r + (l + 1))) c acc)) b bo' t)) :
    wpX_extend post (rt_S pr E (rt_nu w (11 * r + (l + 1)) acc) b bo te) (nI r) (nI l) (nI c) fI (rt_b ad) := by
  have hc8 : c < 8 := by
    have h : l = 0 ∨ l = 1 := by omega
    rcases h with rfl | rfl <;> omega
  have h7 := hE 7 (3 * r + l)
  refine nm_r (rt_ce r l) (rt_wasB hr (by omega) (by omega) rfl rfl rfl (rt_bind hr hl hc8 hE (fun bo' t hT => And.intro (pk_in (3 * r + l) 9 (by omega)) (pk_eq (E 7 (3 * r + l)) 0 (fun e => ?_) (fun e => ?_) (rt_fc (by omega)) rfl))))
  · refine rt_x51 hr hl hc8 hc (by omega) hp hE (rt_bib hE l) hT hf (fun t' => ?_)
    have h := H bo' t'
    unfold rt_e1 at h
    rw [if_pos e] at h
    exact h
  · refine rt_neg hr hl hc8 hc hp hE (rt_bib hE l) hT hfo (fun bo2 t2 => ?_)
    have h := H bo2 t2
    unfold rt_e1 at h
    rw [if_neg e] at h
    exact h
end
section
/-! ===== update ===== -/
theorem rt_lev {post : St2 → Prop} {J : (Int32 → Int32 → (Nat → Int32) → (Nat → Int32) → (Nat → Int32) → (Nat → Int32) → (Nat → Int32) → (Nat → Int32) → (Nat → Int32) → (Nat → Int32) → (Nat → Int64) → (Nat → Int64) → (Nat → Int32) → (Nat → Int32) → Prop)} {pr : Nat} {E : Nat → Nat → Nat} {w b : Nat → Nat} {bo te : Nat → Int32} {r l q acc fN : Nat} {fI : Int32} {ad : Bool} (hr : r < 3) (hl : l < 2) (hq : 8 ^ l = q) (hp : pr < 128) (hE : ∀ i j, E i j < 8)
    (hf : ∀ g, g < 7 → (nI g = fI ↔ g = fN)) (hfo : ∀ c, (b (11 * r + l)).testBit c = true → fN < 7 ∧ fI = nI fN)
    (H : ∀ bo' t, J (nI (l + 1)) (nI pr) (rt_f (E 0)) (rt_f (E 1)) (rt_f (E 2)) (rt_f (E 3)) (rt_f (E 4)) (rt_f (E 5)) (rt_f (E 6)) (rt_f (E 7)) (rt_l (rt_nu w (11 * r + (l + 1)) (rt_lv pr E r l fN ad (b (11 * r + l)) (b (11 * r + (l + 1))) (w (11 * r + l)) acc q))) (rt_l b) bo' t) :
    ∃ n, wX_update_106 post J (nI r) fI (rt_b ad) (nI l) n 0 (nI pr) (rt_f (E 0)) (rt_f (E 1)) (rt_f (E 2)) (rt_f (E 3)) (rt_f (E 4)) (rt_f (E 5)) (rt_f (E 6)) (rt_f (E 7)) (rt_l (rt_nu w (11 * r + (l + 1)) acc)) (rt_l b) bo te := by
  have hq8 : q ≤ 8 := by
    have h : l = 0 ∨ l = 1 := by omega
    rcases h with rfl | rfl <;> omega
  have hk : 11 * r + l ≠ 11 * r + (l + 1) := by omega
  refine pk_loop (σ := (Nat → Int32) × (Nat → Int32)) (fun n i s => wX_update_106 post J (nI r) fI (rt_b ad) (nI l) n (nI i) (nI pr) (rt_f (E 0)) (rt_f (E 1)) (rt_f (E 2)) (rt_f (E 3)) (rt_f (E 4)) (rt_f (E 5)) (rt_f (E 6)) (rt_f (E 7)) (rt_l (rt_nu w (11 * r + (l + 1)) (rt_lv pr E r l fN ad (b (11 * r + l)) (b (11 * r + (l + 1))) (w (11 * r + l)) acc i))) (rt_l b) s.1 s.2) (fun _ _ => True) q 0 (bo, te) (by omega) trivial ?_ ?_
  · intro n s _
    unfold wX_update_106
    refine rt_codes (l := l) (by omega) rfl ?_
    rw [hq]
    exact pk_le q q (fun _ => nm_r (nI_1 l) (H s.1 s.2)) (fun z => absurd z (by omega))
  · intro n i s hi _ hw
    unfold wX_update_106
    refine rt_codes (l := l) (by omega) rfl ?_
    rw [hq]
    refine pk_le q i (fun z => absurd z (by omega)) (fun _ => rt_isInB hr (by omega) (by omega) rfl rfl rfl ?_)
    rw [rt_nun hk]
    cases ho : (w (11 * r + l)).testBit i with
    | false =>
      refine br_t rfl (nm_r (nI_1 i) ?_)
      have x := hw s trivial
      unfold rt_lv at x
      rw [if_neg (by rw [ho]; decide)] at x
      exact x
    | true =>
      refine br_f rt_bt (rt_extend hr hl (by omega) hp hE hf (hfo i) (fun bo' t => nm_r (nI_1 i) ?_))
      have x := hw (bo', t) trivial
      dsimp only at x
      unfold rt_lv at x
      rw [if_pos ho] at x
      exact x
/-- the levels, one after the other -/
theorem rt_92 {post : St2 → Prop} {pr : Nat} {E : Nat → Nat → Nat} {w b : Nat → Nat} {bo te : Nat → Int32} {r fN : Nat} {fI : Int32} {ad : Bool} (hr : r < 3) (hs : E 3 r ≤ 2) (hp : pr < 128) (hE : ∀ i j, E i j < 8)
    (hf : ∀ g, g < 7 → (nI g = fI ↔ g = fN)) (hfo : ∀ l c, l < 2 → (b (11 * r + l)).testBit c = true → fN < 7 ∧ fI = nI fN)
    (w0 : w (11 * r) = 1) (w1 : w (11 * r + 1) = 0) (w2 : w (11 * r + 2) = 0) {b1 b2 : Nat} (hb0 : b (11 * r) = rt_o fN 1) (hb1 : b (11 * r + 1) = rt_o fN b1) (hb2 : b (11 * r + 2) = rt_o fN b2)
    (H : ∀ bo' t, post (rt_S pr E (rt_nu (rt_nu w (11 * r + 1) (rt_W1 pr E r fN ad b1)) (11 * r + 2) (rt_W2 pr E r fN ad b1 b2 (rt_W1 pr E r fN ad b1))) b bo' t)) :
    ∃ n, wX_update_92 post (nI r) fI (rt_b ad) n 0 (nI pr) (rt_f (E 0)) (rt_f (E 1)) (rt_f (E 2)) (rt_f (E 3)) (rt_f (E 4)) (rt_f (E 5)) (rt_f (E 6)) (rt_f (E 7)) (rt_l w) (rt_l b) bo te := by
  refine ⟨3, And.intro (pk_in r 3 hr) (pk_le (E 3 r) 0 (fun z => ?_) (fun z => ?_) (rt_fc (by omega)) rfl)⟩
  · have h := H bo te
    unfold rt_W1 rt_W2 at h
    rw [if_pos (by omega), if_pos (by omega), rt_nue w1, rt_nue w2] at h
    exact h
  · have e1 : rt_W1 pr E r fN ad b1 = rt_lv pr E r 0 fN ad (b (11 * r + 0)) (b (11 * r + (0 + 1))) (w (11 * r + 0)) 0 1 := by
      show rt_W1 pr E r fN ad b1 = rt_lv pr E r 0 fN ad (b (11 * r)) (b (11 * r + 1)) (w (11 * r)) 0 1
      rw [w0, hb0, hb1]
      unfold rt_W1
      rw [if_neg (by omega)]
    rw [← rt_nue w1]
    refine rt_lev (l := 0) (acc := 0) hr (by omega) rfl hp hE hf (fun c => hfo 0 c (by omega)) (fun bo' t => ?_)
    rw [← e1]
    refine And.intro (pk_in r 3 hr) (pk_le (E 3 r) 1 (fun z => ?_) (fun z => ?_) (rt_fc (by omega)) rfl)
    · have h := H bo' t
      unfold rt_W2 at h
      rw [if_pos (by omega), rt_nue (by rw [rt_nun (by omega)]; exact w2)] at h
      exact h
    · have e2 : rt_W2 pr E r fN ad b1 b2 (rt_W1 pr E r fN ad b1) = rt_lv pr E r 1 fN ad (b (11 * r + 1)) (b (11 * r + (1 + 1))) (rt_nu w (11 * r + 1) (rt_W1 pr E r fN ad b1) (11 * r + 1)) 0 8 := by
        show _ = rt_lv pr E r 1 fN ad (b (11 * r + 1)) (b (11 * r + 2)) (rt_nu w (11 * r + 1) (rt_W1 pr E r fN ad b1) (11 * r + 1)) 0 8
        rw [rt_nus, hb1, hb2]
        unfold rt_W2
        rw [if_neg (by omega)]
      have e3 : rt_nu w (11 * r + 1) (rt_W1 pr E r fN ad b1) = rt_nu (rt_nu w (11 * r + 1) (rt_W1 pr E r fN ad b1)) (11 * r + (1 + 1)) 0 := by
        rw [rt_nue (k := 11 * r + (1 + 1)) (by rw [rt_nun (by omega)]; exact w2)]
      show ∃ n, wX_update_106 post _ (nI r) fI (rt_b ad) (nI 1) n 0 (nI pr) (rt_f (E 0)) (rt_f (E 1)) (rt_f (E 2)) (rt_f (E 3)) (rt_f (E 4)) (rt_f (E 5)) (rt_f (E 6)) (rt_f (E 7)) (rt_l (rt_nu w (11 * r + 1) (rt_W1 pr E r fN ad b1))) (rt_l b) bo' t
      rw [e3]
      refine rt_lev (l := 1) (acc := 0) hr (by omega) rfl hp hE hf (fun c => hfo 1 c (by omega)) (fun bo2 t2 => ?_)
      rw [← e2]
      exact And.intro (pk_in r 3 hr) (pk_le (E 3 r) 2 (fun z => H bo2 t2) (fun z => absurd z (by omega)) (rt_fc (by omega)) rfl)
/-! the words of rule r cleared up to place i; what stood there is kept -/
def rt_c (w : Nat → Nat) (r i : Nat) : Nat → Nat := fun j => if 11 * r ≤ j ∧ j < 11 * r + i then 0 else w j
def rt_k (w b : Nat → Nat) (r fN i : Nat) : Nat → Nat := fun j => if 11 * r ≤ j ∧ j < 11 * r + i then rt_o fN (w j) else b j
theorem rt_c0 (w : Nat → Nat) (r : Nat) : rt_c w r 0 = w := by
  funext j
  exact if_neg (by omega)
theorem rt_k0 (w b : Nat → Nat) (r fN : Nat) : rt_k w b r fN 0 = b := by
  funext j
  exact if_neg (by omega)
theorem rt_cs (w : Nat → Nat) (r i : Nat) : rt_nu (rt_c w r i) (11 * r + i) 0 = rt_c w r (i + 1) := by
  funext j
  unfold rt_c
  by_cases h : j = 11 * r + i
  · rw [h, rt_nus, if_pos (by omega)]
  · rw [rt_nun h]
    by_cases g : 11 * r ≤ j ∧ j < 11 * r + i
    · rw [if_pos g, if_pos (by omega)]
    · rw [if_neg g, if_neg (by omega)]
theorem rt_ks (w b : Nat → Nat) (r fN i : Nat) : rt_nu (rt_k w b r fN i) (11 * r + i) (rt_o fN (w (11 * r + i))) = rt_k w b r fN (i + 1) := by
  funext j
  unfold rt_k
  by_cases h : j = 11 * r + i
  · rw [h, rt_nus, if_pos (by omega)]
  · rw [rt_nun h]
    by_cases g : 11 * r ≤ j ∧ j < 11 * r + i
    · rw [if_pos g, if_pos (by omega)]
    · rw [if_neg g, if_neg (by omega)]
theorem rt_cv (w : Nat → Nat) (r i : Nat) : rt_c w r i (11 * r + i) = w (11 * r + i) := if_neg (by omega)
def rt_w0 (w : Nat → Nat) (r : Nat) : Nat → Nat := rt_nu (rt_c w r 11) (11 * r) 1
def rt_b0 (w b : Nat → Nat) (r fN : Nat) : Nat → Nat := rt_nu (rt_k w b r fN 11) (11 * r) (rt_o fN 1)
/-- how the fact that changed is given: fN < 7, or all made anew (fN = 7, fI = -1) -/
def rt_F (fI : Int32) (fN : Nat) : Prop := (fN < 7 ∧ fI = nI fN) ∨ (fN = 7 ∧ fI = -1)
theorem rt_Fe {fI : Int32} {fN : Nat} (h : rt_F fI fN) : ∀ g, g < 7 → (nI g = fI ↔ g = fN) := by
  intro g hg
  rcases h with ⟨h7, rfl⟩ | ⟨rfl, rfl⟩
  · exact nI_eq (by omega) (by omega)
  · constructor
    · intro e
      have hx : ¬ nI g < 0 := nI_pos (by omega)
      rw [e] at hx
      exact absurd (by decide) hx
    · intro e
      omega
theorem rt_F0 {fI : Int32} {fN : Nat} (h : rt_F fI fN) : 0 ≤ fI ↔ ¬ fN = 7 := by
  rcases h with ⟨h7, rfl⟩ | ⟨rfl, rfl⟩
  · exact ⟨fun _ => by omega, fun _ => nI_pos' (by omega)⟩
  · exact ⟨fun h => absurd h (by decide), fun h => absurd rfl h⟩
theorem rt_Fo {fI : Int32} {fN x c : Nat} (h : rt_F fI fN) (hx : (rt_o fN x).testBit c = true) : fN < 7 ∧ fI = nI fN := by
  rcases h with h | ⟨rfl, rfl⟩
  · exact h
  · exact absurd hx (by rw [show rt_o 7 x = 0 from rfl, Nat.zero_testBit]; decide)
theorem rt_update {post : St2 → Prop} {pr : Nat} {E : Nat → Nat → Nat} {w b : Nat → Nat} {bo te : Nat → Int32} {r fN : Nat} {fI : Int32} {ad : Bool} {p0 p2 : Int32} (h0 : p0 = nI r) (h2 : p2 = rt_b ad) (hr : r < 3) (hs : E 3 r ≤ 2) (hp : pr < 128) (hE : ∀ i j, E i j < 8) (hF : rt_F fI fN)
    (H : ∀ b' bo' t, post (rt_S pr E (rt_nu (rt_nu (rt_w0 w r) (11 * r + 1) (rt_W1 pr E r fN ad (w (11 * r + 1)))) (11 * r + 2) (rt_W2 pr E r fN ad (w (11 * r + 1)) (w (11 * r + 2)) (rt_W1 pr E r fN ad (w (11 * r + 1))))) b' bo' t)) :
    wpX_update post (rt_S pr E w b bo te) p0 fI p2 := by
  subst h0 h2
  have B0 : rt_b0 w b r fN (11 * r) = rt_o fN 1 := rt_nus
  have B : ∀ i, i < 11 → 0 < i → rt_b0 w b r fN (11 * r + i) = rt_o fN (w (11 * r + i)) := by
    intro i hi hi0
    unfold rt_b0
    rw [rt_nun (by omega)]
    exact if_pos (by omega)
  have X0 : rt_w0 w r (11 * r) = 1 := rt_nus
  have X : ∀ i, i < 11 → 0 < i → rt_w0 w r (11 * r + i) = 0 := by
    intro i hi hi0
    unfold rt_w0
    rw [rt_nun (by omega)]
    exact if_pos (by omega)
  have hfo : ∀ l c, l < 2 → (rt_b0 w b r fN (11 * r + l)).testBit c = true → fN < 7 ∧ fI = nI fN := by
    intro l c hl h
    have hl' : l = 0 ∨ l = 1 := by omega
    rcases hl' with rfl | rfl
    · rw [Nat.add_zero, B0] at h
      exact rt_Fo hF h
    · rw [B 1 (by omega) (by omega)] at h
      exact rt_Fo hF h
  have Q : ∃ n, wX_update_92 post (nI r) fI (rt_b ad) n 0 (nI pr) (rt_f (E 0)) (rt_f (E 1)) (rt_f (E 2)) (rt_f (E 3)) (rt_f (E 4)) (rt_f (E 5)) (rt_f (E 6)) (rt_f (E 7)) (rt_l (rt_w0 w r)) (rt_l (rt_b0 w b r fN)) bo te :=
    rt_92 hr hs hp hE (rt_Fe hF) hfo X0 (X 1 (by omega) (by omega)) (X 2 (by omega) (by omega)) B0 (B 1 (by omega) (by omega)) (B 2 (by omega) (by omega)) (fun bo' t => H _ bo' t)
  have W : ∃ n, wX_update_3 post (nI r) fI (rt_b ad) (nI pr) n (nI 0) (rt_f (E 0)) (rt_f (E 1)) (rt_f (E 2)) (rt_f (E 3)) (rt_f (E 4)) (rt_f (E 5)) (rt_f (E 6)) (rt_f (E 7)) (rt_l (rt_c w r 0)) (rt_l (rt_k w b r fN 0)) bo te := by
    refine pk_loop (σ := Unit) (fun n i _ => wX_update_3 post (nI r) fI (rt_b ad) (nI pr) n (nI i) (rt_f (E 0)) (rt_f (E 1)) (rt_f (E 2)) (rt_f (E 3)) (rt_f (E 4)) (rt_f (E 5)) (rt_f (E 6)) (rt_f (E 7)) (rt_l (rt_c w r i)) (rt_l (rt_k w b r fN i)) bo te) (fun _ _ => True) 11 0 () (by omega) trivial ?_ ?_
    · intro n _ _
      refine pk_le 11 11 (fun _ => ⟨pk_in (11 * r) 33 (by omega) (rt_r0 r), nm_r (rt_lu (v := 1) (rt_r0 r) (by omega) rfl) (ek_if (rt_F0 hF) (fun z => ⟨pk_in (11 * r) 33 (by omega) (rt_r0 r), nm_r (rt_lu (v := 1) (rt_r0 r) (by omega) rfl) ?_⟩) (fun z => ⟨pk_in (11 * r) 33 (by omega) (rt_r0 r), nm_r (rt_lu (v := 0) (rt_r0 r) (by omega) rfl) ?_⟩))⟩) (fun z => absurd z (by omega))
      · have e : rt_b0 w b r fN = rt_nu (rt_k w b r fN 11) (11 * r) 1 := by
          unfold rt_b0
          rw [show rt_o fN 1 = 1 from if_neg z]
        rw [e] at Q
        exact Q
      · have e : rt_b0 w b r fN = rt_nu (rt_k w b r fN 11) (11 * r) 0 := by
          unfold rt_b0
          rw [show rt_o fN 1 = 0 from if_pos (Decidable.not_not.mp z)]
        rw [e] at Q
        exact Q
    · intro n i _ hi _ hw
      have x := hw () trivial
      have K : ∀ z0 : Int64, z0 = lN (rt_o fN (w (11 * r + i))) → wX_update_41 post (wX_update_3 post (nI r) fI (rt_b ad) (nI pr) n) (nI r) fI (rt_b ad) (nI i) z0 (nI r * 11 + nI i) (nI pr) (rt_f (E 0)) (rt_f (E 1)) (rt_f (E 2)) (rt_f (E 3)) (rt_f (E 4)) (rt_f (E 5)) (rt_f (E 6)) (rt_f (E 7)) (rt_l (rt_c w r i)) (rt_l (rt_k w b r fN i)) bo te := by
        intro z0 hz
        refine And.intro (pk_in (11 * r + i) 33 (by omega) (rt_ri r i)) (nm_r (rt_lu (v := rt_o fN (w (11 * r + i))) (rt_ri r i) (by omega) hz) ⟨pk_in (11 * r + i) 33 (by omega) (rt_ri r i), nm_r (rt_lu (v := 0) (rt_ri r i) (by omega) rfl) (nm_r (nI_1 i) ?_)⟩)
        rw [rt_cs, rt_ks]
        exact x
      refine pk_le 11 i (fun z => absurd z (by omega)) (fun _ => ek_if (rt_F0 hF) (fun z => ⟨pk_in (11 * r + i) 33 (by omega) (rt_ri r i), K _ ?_⟩) (fun z => K _ ?_))
      · rw [rt_ri, rt_lc (by omega), rt_cv, show rt_o fN (w (11 * r + i)) = w (11 * r + i) from if_neg z]
      · rw [show rt_o fN (w (11 * r + i)) = 0 from if_pos (Decidable.not_not.mp z)]
        rfl
  rw [rt_c0, rt_k0] at W
  exact W
/-! ===== the law's own words ===== -/
def rt_V (w1 w2 : Nat) : Nat → Nat := fun i => if i = 12 then w1 else if i = 13 then w2 else if i = 0 ∨ i = 11 ∨ i = 22 then 1 else 0
theorem rt_Vr {r : Nat} (h : r = 0 ∨ r = 2) (w1 w2 : Nat) : rt_nu (rt_nu (rt_w0 (rt_V w1 w2) r) (11 * r + 1) 0) (11 * r + 2) 0 = rt_V w1 w2 := by
  funext i
  unfold rt_w0 rt_c rt_V rt_nu
  dsimp only
  rcases h with rfl | rfl
  all_goals (repeat' split)
  all_goals (first | rfl | omega)
theorem rt_V1 (w1 w2 x1 x2 : Nat) : rt_nu (rt_nu (rt_w0 (rt_V w1 w2) 1) (11 * 1 + 1) x1) (11 * 1 + 2) x2 = rt_V x1 x2 := by
  funext i
  unfold rt_w0 rt_c rt_V rt_nu
  dsimp only
  repeat' split
  all_goals (first | rfl | omega)
theorem rt_upr {post : St2 → Prop} {pr : Nat} {E : Nat → Nat → Nat} {b : Nat → Nat} {bo te : Nat → Int32} {r fN w1 w2 : Nat} {fI : Int32} {ad : Bool} {p0 p2 : Int32} (h0 : p0 = nI r) (h2 : p2 = rt_b ad) (hr : r = 0 ∨ r = 2) (hs : E 3 r = 0) (hp : pr < 128) (hE : ∀ i j, E i j < 8) (hF : rt_F fI fN)
    (H : ∀ b' bo' t, post (rt_S pr E (rt_V w1 w2) b' bo' t)) : wpX_update post (rt_S pr E (rt_V w1 w2) b bo te) p0 fI p2 := by
  refine rt_update h0 h2 (by omega) (by omega) hp hE hF (fun b' bo' t => ?_)
  unfold rt_W1 rt_W2
  rw [if_pos hs, if_pos (by omega), rt_Vr hr]
  exact H b' bo' t
theorem rt_up1 {post : St2 → Prop} {pr : Nat} {E : Nat → Nat → Nat} {b : Nat → Nat} {bo te : Nat → Int32} {fN w1 w2 x1 x2 : Nat} {fI : Int32} {ad : Bool} {p0 p2 : Int32} (h0 : p0 = nI 1) (h2 : p2 = rt_b ad) (hs : E 3 1 ≤ 2) (hp : pr < 128) (hE : ∀ i j, E i j < 8) (hF : rt_F fI fN)
    (hx1 : rt_W1 pr E 1 fN ad w1 = x1) (hx2 : rt_W2 pr E 1 fN ad w1 w2 x1 = x2)
    (H : ∀ b' bo' t, post (rt_S pr E (rt_V x1 x2) b' bo' t)) : wpX_update post (rt_S pr E (rt_V w1 w2) b bo te) p0 fI p2 := by
  subst hx1 hx2
  refine rt_update h0 h2 (by omega) hs hp hE hF (fun b' bo' t => ?_)
  rw [rt_V1]
  exact H b' bo' t
end
section
/-! ===== the calls of the law ===== -/
theorem rt_rule {post : Int32 → Prop} {r : Nat} {p : Int32} (h : p = nI r) (hr : r < 3) (H : post 1) : wpX_isRule post () p := by
  subst h
  exact br_f (nI_pos (by omega)) (pk_le 3 r (fun z => absurd z (by omega)) (fun _ => H))
theorem rt_fok {post : Int32 → Prop} {k x y : Nat} (hk : k < 3) (hx : x < 4) (hy : y < 4) {p0 p1 p2 : Int32} (h0 : p0 = nI k) (h1 : p1 = nI x) (h2 : p2 = nI y) (H : post 1) : wpX_factOk post () p0 p1 p2 := by
  subst h0 h1 h2
  exact br_f (nI_pos (by omega)) (pk_lt 2 k (fun z => absurd z (by omega)) (fun _ => br_f (nI_pos (by omega)) (pk_lt 3 x (fun z => absurd z (by omega)) (fun _ => br_f (nI_pos (by omega)) (pk_lt 3 y (fun z => absurd z (by omega)) (fun _ => H))))))
/-! a condition put to rule 1 -/
def rt_cn (E : Nat → Nat → Nat) (q : Nat) : Nat → Nat → Nat
  | 3 => rt_nu (E 3) 1 (E 3 1 + 1)
  | 4 => rt_nu (E 4) (3 * 1 + E 3 1) (q % 4)
  | 5 => rt_nu (E 5) (3 * 1 + E 3 1) (q / 4 % 8)
  | 6 => rt_nu (E 6) (3 * 1 + E 3 1) (q / 32 % 8)
  | 7 => rt_nu (E 7) (3 * 1 + E 3 1) (q / 256)
  | 0 => E 0
  | 1 => E 1
  | 2 => E 2
  | n + 8 => E (n + 8)
theorem rt_cnb {E : Nat → Nat → Nat} {q : Nat} (hE : ∀ i j, E i j < 8) (hq : q < 512) (hs : E 3 1 < 2) : ∀ i j, rt_cn E q i j < 8 := by
  intro i
  match i with
  | 0 => exact hE 0
  | 1 => exact hE 1
  | 2 => exact hE 2
  | 3 => exact rt_nul (hE 3) (by omega)
  | 4 => exact rt_nul (hE 4) (by omega)
  | 5 => exact rt_nul (hE 5) (by omega)
  | 6 => exact rt_nul (hE 6) (by omega)
  | 7 => exact rt_nul (hE 7) (by omega)
  | n + 8 => exact hE (n + 8)
theorem rt_cond {post : Int32 → St2 → Prop} {pr : Nat} {E : Nat → Nat → Nat} {b : Nat → Nat} {bo te : Nat → Int32} {q w1 w2 x1 x2 : Nat} {p0 p1 : Int32} (h0 : p0 = nI 1) (h1 : p1 = nI q) (hq : q < 512) (hq4 : q % 4 ≤ 2) (hp : pr < 128) (hE : ∀ i j, E i j < 8) (hs : E 3 1 < 2)
    (hx1 : rt_W1 pr (rt_cn E q) 1 7 true w1 = x1) (hx2 : rt_W2 pr (rt_cn E q) 1 7 true w1 w2 x1 = x2)
    (H : ∀ b' bo' t, post (nI (E 3 1 + 1)) (rt_S pr (rt_cn E q) (rt_V x1 x2) b' bo' t)) :
    wpX_condition post (rt_S pr E (rt_V w1 w2) b bo te) p0 p1 := by
  subst h0 h1
  have hs1 : rt_cn E q 3 1 = E 3 1 + 1 := rt_nus
  have K : ∀ (z0 : Int32), vp_nar .boolean z0 = nI (q / 256) → wX_condition_104 post (nI 1) z0 (nI (3 * 1 + E 3 1)) (nI pr) (rt_f (E 0)) (rt_f (E 1)) (rt_f (E 2)) (rt_f (E 3)) (rt_f (rt_cn E q 4)) (rt_f (rt_cn E q 5)) (rt_f (rt_cn E q 6)) (rt_f (E 7)) (rt_l (rt_V w1 w2)) (rt_l b) bo te := by
    intro z0 hz
    have e3 : (rt_f (E 3) (nI 1).toNatClampNeg + 1).toInt8.toInt32 = nI (E 3 1 + 1) := by
      rw [rt_fc (by omega), nI_1]
      exact rt_by _ (by omega)
    refine And.intro (pk_in (3 * 1 + E 3 1) 9 (by omega)) (nm_r (rt_fu (v := q / 256) rfl (by omega) hz) ⟨pk_in 1 3 (by omega), pk_in 1 3 (by omega), nm_r (rt_fu (v := E 3 1 + 1) rfl (by omega) e3) ?_⟩)
    refine rt_up1 (E := rt_cn E q) (fN := 7) (ad := true) rfl rfl (by omega) hp (rt_cnb hE hq hs) (Or.inr ⟨rfl, rfl⟩) hx1 hx2 (fun b' bo' t => And.intro (pk_in 1 3 (by omega)) ?_)
    rw [rt_fc (by omega), hs1]
    exact H b' bo' t
  have ex : nI 1 * 3 + rt_f (E 3) (nI 1).toNatClampNeg = nI (3 * 1 + E 3 1) := by
    rw [rt_fc (by omega)]
    exact rt_ce 1 (E 3 1)
  obtain ⟨q4, q4'⟩ := rt_q4 q hq
  unfold wpX_condition
  refine rt_rule rfl (by omega) (br_f rt_10 (br_f (nI_pos (by omega)) (pk_lt 511 q (fun z => absurd z (by omega)) (fun _ => ?_))))
  refine pk_le (q % 4) 2 (fun z => ⟨pk_in 1 3 (by omega), ?_⟩) (fun z => absurd z (by omega)) q4 rfl
  refine pk_lt (E 3 1) 3 (fun z => ⟨pk_in 1 3 (by omega), nm_r ex ?_⟩) (fun z => absurd z (by omega)) (rt_fc (by omega)) rfl
  refine ⟨pk_in (3 * 1 + E 3 1) 9 (by omega), nm_r (rt_fu (v := q % 4) rfl (by omega) q4') ?_⟩
  refine ⟨pk_in (3 * 1 + E 3 1) 9 (by omega), nm_r (rt_fu (v := q / 4 % 8) rfl (by omega) (rt_qa q hq)) ?_⟩
  refine ⟨pk_in (3 * 1 + E 3 1) 9 (by omega), nm_r (rt_fu (v := q / 32 % 8) rfl (by omega) (rt_qb q hq)) ?_⟩
  refine pk_lt q 256 (fun z => K 0 ?_) (fun z => K 1 ?_)
  · rw [show q / 256 = 0 by omega]
    decide
  · rw [show q / 256 = 1 by omega]
    decide
/-! a fact put to place k -/
def rt_ad (E : Nat → Nat → Nat) (k x y z : Nat) : Nat → Nat → Nat
  | 0 => rt_nu (E 0) k x
  | 1 => rt_nu (E 1) k y
  | 2 => rt_nu (E 2) k z
  | n + 3 => E (n + 3)
theorem rt_adb {E : Nat → Nat → Nat} {k x y z : Nat} (hE : ∀ i j, E i j < 8) (hx : x < 8) (hy : y < 8) (hz : z < 8) : ∀ i j, rt_ad E k x y z i j < 8 := by
  intro i
  match i with
  | 0 => exact rt_nul (hE 0) hx
  | 1 => exact rt_nul (hE 1) hy
  | 2 => exact rt_nul (hE 2) hz
  | n + 3 => exact hE (n + 3)
theorem rt_73 {post : Int32 → St2 → Prop} {pr : Nat} {E : Nat → Nat → Nat} {b : Nat → Nat} {bo te : Nat → Int32} {k w1 w2 x1 x2 : Nat} (hk : k < 7) (hp : pr < 128) (hE : ∀ i j, E i j < 8) (h0 : E 3 0 = 0) (h1 : E 3 1 ≤ 2) (h2 : E 3 2 = 0)
    (hx1 : rt_W1 pr E 1 k true w1 = x1) (hx2 : rt_W2 pr E 1 k true w1 w2 x1 = x2)
    (H : ∀ b' bo' t, post (nI k) (rt_S pr E (rt_V x1 x2) b' bo' t)) :
    ∃ n, wX_add_73 post (nI k) n 0 (nI pr) (rt_f (E 0)) (rt_f (E 1)) (rt_f (E 2)) (rt_f (E 3)) (rt_f (E 4)) (rt_f (E 5)) (rt_f (E 6)) (rt_f (E 7)) (rt_l (rt_V w1 w2)) (rt_l b) bo te := by
  have hF : rt_F (nI k) k := Or.inl ⟨hk, rfl⟩
  refine ⟨4, pk_le 3 0 (fun z => absurd z (by omega)) (fun _ => rt_upr (r := 0) (ad := true) rfl rfl (Or.inl rfl) h0 hp hE hF (fun b1 bo1 t1 => nm_r (nI_1 0) ?_))⟩
  refine pk_le 3 1 (fun z => absurd z (by omega)) (fun _ => rt_up1 (ad := true) rfl rfl h1 hp hE hF hx1 hx2 (fun b2 bo2 t2 => nm_r (nI_1 1) ?_))
  refine pk_le 3 2 (fun z => absurd z (by omega)) (fun _ => rt_upr (r := 2) (ad := true) rfl rfl (Or.inr rfl) h2 hp hE hF (fun b3 bo3 t3 => nm_r (nI_1 2) ?_))
  exact pk_le 3 3 (fun _ => H b3 bo3 t3) (fun z => absurd z (by omega))
theorem rt_add {post : Int32 → St2 → Prop} {pr : Nat} {E : Nat → Nat → Nat} {b : Nat → Nat} {bo te : Nat → Int32} {k x y z w1 w2 x1 x2 pn : Nat} {p0 p1 p2 : Int32} (e0 : p0 = nI x) (e1 : p1 = nI y) (e2 : p2 = nI z) (hx : x < 3) (hy : y < 4) (hz : z < 4) (hk : k < 7) (hlo : ∀ j, j < k → pr.testBit j = true) (hhi : pr.testBit k = false)
    (hp : pr < 128) (hpn : pr ||| 2 ^ k = pn) (hp' : pn < 128) (hE : ∀ i j, E i j < 8) (h0 : E 3 0 = 0) (h1 : E 3 1 ≤ 2) (h2 : E 3 2 = 0)
    (hx1 : rt_W1 pn (rt_ad E k x y z) 1 k true w1 = x1) (hx2 : rt_W2 pn (rt_ad E k x y z) 1 k true w1 w2 x1 = x2)
    (H : ∀ b' bo' t, post (nI k) (rt_S pn (rt_ad E k x y z) (rt_V x1 x2) b' bo' t)) :
    wpX_add post (rt_S pr E (rt_V w1 w2) b bo te) p0 p1 p2 := by
  subst e0 e1 e2 hpn
  unfold wpX_add
  refine rt_fok hx hy hz rfl rfl rfl (br_f rt_10 ?_)
  refine pk_loop (σ := Unit) (fun n i _ => wX_add_14 post (nI x) (nI y) (nI z) (nI pr) (rt_f (E 0)) (rt_f (E 1)) (rt_f (E 2)) (rt_f (E 3)) (rt_f (E 4)) (rt_f (E 5)) (rt_f (E 6)) (rt_f (E 7)) (rt_l (rt_V w1 w2)) (rt_l b) bo te n (nI i)) (fun _ _ => True) k 0 () (by omega) trivial ?_ ?_
  · intro n _ _
    refine pk_le 7 k (fun z => absurd z (by omega)) (fun _ => rt_has hk hp (fun t => absurd t (by rw [hhi]; decide)) (fun _ => br_t rfl (nm_r (rt_pr1 pr hp k hk) ?_)))
    refine ⟨pk_in k 7 hk, nm_r (rt_fu (v := x) rfl (by omega) (rt_by x (by omega))) ⟨pk_in k 7 hk, nm_r (rt_fu (v := y) rfl (by omega) (rt_by y (by omega))) ⟨pk_in k 7 hk, nm_r (rt_fu (v := z) rfl (by omega) (rt_by z (by omega))) ?_⟩⟩⟩
    exact rt_73 (E := rt_ad E k x y z) hk hp' (rt_adb hE (by omega) (by omega) (by omega)) h0 h1 h2 hx1 hx2 H
  · intro n i _ hi _ hw
    exact pk_le 7 i (fun z => absurd z (by omega)) (fun _ => rt_has (by omega) hp (fun _ => br_f rt_10 (nm_r (nI_1 i) (hw () trivial))) (fun t => absurd t (by rw [hlo i hi]; decide)))
/-! a fact taken away: the law asks only that it ends -/
theorem rt_remove {post : Int32 → St2 → Prop} {pr : Nat} {E : Nat → Nat → Nat} {b : Nat → Nat} {bo te : Nat → Int32} {k w1 w2 : Nat} {p0 : Int32} (e0 : p0 = nI k) (hk : k < 7) (hin : pr.testBit k = true) (hp : pr < 128) (hp' : pr &&& (127 - 2 ^ k) < 128) (hE : ∀ i j, E i j < 8) (h0 : E 3 0 = 0) (h1 : E 3 1 ≤ 2) (h2 : E 3 2 = 0)
    (H : ∀ pr' x1 x2 b' bo' t, post 1 (rt_S pr' E (rt_V x1 x2) b' bo' t)) : wpX_remove post (rt_S pr E (rt_V w1 w2) b bo te) p0 := by
  subst e0
  have hF : rt_F (nI k) k := Or.inl ⟨hk, rfl⟩
  unfold wpX_remove
  refine rt_has hk hp (fun _ => br_f rt_10 (nm_r (rt_pr0 pr hp k hk) ?_)) (fun t => absurd t (by rw [hin]; decide))
  refine ⟨4, pk_le 3 0 (fun z => absurd z (by omega)) (fun _ => rt_upr (r := 0) (ad := false) rfl rfl (Or.inl rfl) h0 hp' hE hF (fun b1 bo1 t1 => nm_r (nI_1 0) ?_))⟩
  refine pk_le 3 1 (fun z => absurd z (by omega)) (fun _ => rt_up1 (ad := false) rfl rfl h1 hp' hE hF rfl rfl (fun b2 bo2 t2 => nm_r (nI_1 1) ?_))
  refine pk_le 3 2 (fun z => absurd z (by omega)) (fun _ => rt_upr (r := 2) (ad := false) rfl rfl (Or.inr rfl) h2 hp' hE hF (fun b3 bo3 t3 => nm_r (nI_1 2) ?_))
  exact pk_le 3 3 (fun _ => H _ _ _ b3 bo3 t3) (fun z => absurd z (by omega))
/-! ===== the questions ===== -/
def rt_ct (x : Nat) : Nat → Nat
  | 0 => 0
  | n + 1 => if x.testBit n = true then rt_ct x n + 1 else rt_ct x n
theorem rt_count {post : Int32 → Prop} {pr : Nat} {E : Nat → Nat → Nat} {w b : Nat → Nat} {bo te : Nat → Int32} {r l q : Nat} {p0 p1 : Int32} (e0 : p0 = nI r) (e1 : p1 = nI l) (hr : r < 3) (hl : l < 3) (hq : 8 ^ l = q) (hq64 : q ≤ 64) (H : post (nI (rt_ct (w (11 * r + l)) q))) : wpX_countAt post (rt_S pr E w b bo te) p0 p1 := by
  subst e0 e1
  refine pk_loop (σ := Unit) (fun n i _ => wX_countAt_5 post (nI r) (nI l) (nI pr) (rt_f (E 0)) (rt_f (E 1)) (rt_f (E 2)) (rt_f (E 3)) (rt_f (E 4)) (rt_f (E 5)) (rt_f (E 6)) (rt_f (E 7)) (rt_l w) (rt_l b) bo te n (nI (rt_ct (w (11 * r + l)) i)) (nI i)) (fun _ _ => True) q 0 () (by omega) trivial ?_ ?_
  · intro n _ _
    unfold wX_countAt_5
    refine rt_codes (l := l) (by omega) rfl ?_
    rw [hq]
    exact pk_le q q (fun _ => H) (fun z => absurd z (by omega))
  · intro n i _ hi _ hw
    have x := hw () trivial
    unfold rt_ct at x
    unfold wX_countAt_5
    refine rt_codes (l := l) (by omega) rfl ?_
    rw [hq]
    refine pk_le q i (fun z => absurd z (by omega)) (fun _ => rt_isInB hr (by omega) (by omega) rfl rfl rfl ?_)
    cases ho : (w (11 * r + l)).testBit i with
    | false =>
      rw [if_neg (by rw [ho]; decide)] at x
      exact br_t rfl (nm_r (Int32.add_zero _) (nm_r (nI_1 i) x))
    | true =>
      rw [if_pos ho] at x
      exact br_f rt_bt (nm_r (nI_1 _) (nm_r (nI_1 i) x))
theorem rt_matches {post : Int32 → Prop} {pr : Nat} {E : Nat → Nat → Nat} {b : Nat → Nat} {bo te : Nat → Int32} {w1 w2 : Nat} {p0 : Int32} (e0 : p0 = nI 1) (hs : E 3 1 = 2) (H : post (nI (rt_ct w2 64))) : wpX_matches post (rt_S pr E (rt_V w1 w2) b bo te) p0 := by
  subst e0
  unfold wpX_matches
  refine rt_rule rfl (by omega) (br_f rt_10 ⟨pk_in 1 3 (by omega), rt_count (r := 1) (l := 2) (q := 64) rfl ?_ (by omega) (by omega) rfl (by omega) H⟩)
  rw [rt_fc (by omega), hs]
theorem rt_part {post : Int32 → Prop} {pr : Nat} {E : Nat → Nat → Nat} {b : Nat → Nat} {bo te : Nat → Int32} {w1 w2 : Nat} {p0 p1 : Int32} (e0 : p0 = nI 1) (e1 : p1 = nI 1) (hs : E 3 1 = 2) (H : post (nI (rt_ct w1 8))) : wpX_partial post (rt_S pr E (rt_V w1 w2) b bo te) p0 p1 := by
  subst e0 e1
  unfold wpX_partial
  exact rt_rule rfl (by omega) (br_f rt_10 (br_f (nI_pos (by omega)) ⟨pk_in 1 3 (by omega), pk_lt (E 3 1) 1 (fun z => absurd z (by omega)) (fun _ => rt_count (r := 1) (l := 1) (q := 8) rfl rfl (by omega) (by omega) rfl (by omega) H) (rt_fc (by omega)) rfl⟩))
def rt_fm (x : Nat) : Nat → Nat → Int32
  | 0, _ => -1
  | n + 1, k => if x.testBit k = true then nI k ||| 448 else rt_fm x n (k + 1)
theorem rt_match {post : Int32 → Prop} {pr : Nat} {E : Nat → Nat → Nat} {b : Nat → Nat} {bo te : Nat → Int32} {w1 w2 : Nat} {p0 p1 : Int32} (e0 : p0 = nI 1) (e1 : p1 = nI 0) (hs : E 3 1 = 2) (H : post (rt_fm w2 64 0)) : wpX_match post (rt_S pr E (rt_V w1 w2) b bo te) p0 p1 := by
  subst e0 e1
  have ez : rt_f (E 3) (nI 1).toNatClampNeg = nI 2 := by rw [rt_fc (by omega), hs]
  unfold wpX_match
  refine rt_rule rfl (by omega) (br_f rt_10 ⟨pk_in 1 3 (by omega), nm_r ez (rt_codes (l := 2) (by omega) rfl (nm_r (show 511 &&& ((nI (8 ^ 2) - 1) ^^^ (-1)) = 448 by decide) ?_))⟩)
  refine pk_loop (σ := Unit) (fun n i _ => wX_match_36 post (nI 1) (nI 0) (nI 2) 448 (nI pr) (rt_f (E 0)) (rt_f (E 1)) (rt_f (E 2)) (rt_f (E 3)) (rt_f (E 4)) (rt_f (E 5)) (rt_f (E 6)) (rt_f (E 7)) (rt_l (rt_V w1 w2)) (rt_l b) bo te n 0 (nI i)) (fun i _ => post (rt_fm w2 (64 - i) i)) 64 0 () (by omega) H ?_ ?_
  · intro n _ h
    unfold wX_match_36
    exact rt_codes (l := 2) (by omega) rfl (pk_le 64 64 (fun _ => h) (fun z => absurd z (by omega)))
  · intro n i _ hi h hw
    rw [show 64 - i = (63 - i) + 1 by omega] at h
    unfold rt_fm at h
    unfold wX_match_36
    refine rt_codes (l := 2) (by omega) rfl (pk_le 64 i (fun z => absurd z (by omega)) (fun _ => rt_isInB (r := 1) (l := 2) (by omega) (by omega) (by omega) rfl rfl rfl ?_))
    show _
    cases ho : w2.testBit i with
    | false =>
      rw [if_neg (by rw [ho]; decide)] at h
      refine br_t ?_ (nm_r (nI_1 i) (hw () ?_))
      · show rt_b (w2.testBit i) = 0
        rw [ho]
        rfl
      · rw [show 64 - (i + 1) = 63 - i by omega]
        exact h
    | true =>
      rw [if_pos ho] at h
      refine br_f ?_ (br_t rfl h)
      show ¬ rt_b (w2.testBit i) = 0
      rw [ho]
      exact rt_bt
theorem rt_effect {post : Int32 → St2 → Prop} {pr : Nat} {E : Nat → Nat → Nat} {b : Nat → Nat} {bo te : Nat → Int32} {k x y z w1 w2 x1 x2 pn : Nat} {p0 p1 p2 p3 : Int32} (e00 : p0 = nI 1) (e0 : p1 = nI x) (e1 : p2 = nI y) (e2 : p3 = nI z) (hx : x < 3) (hy : y < 4) (hz : z < 4) (hk : k < 7) (hlo : ∀ j, j < k → pr.testBit j = true) (hhi : pr.testBit k = false)
    (hp : pr < 127) (hpn : pr ||| 2 ^ k = pn) (hp' : pn < 128) (hin : pn.testBit k = true) (hpr : pn &&& (127 - 2 ^ k) < 128) (hE : ∀ i j, E i j < 8) (h0 : E 3 0 = 0) (h1 : E 3 1 = 2) (h2 : E 3 2 = 0)
    (hx1 : rt_W1 pn (rt_ad E k x y z) 1 k true w1 = x1) (hx2 : rt_W2 pn (rt_ad E k x y z) 1 k true w1 w2 x1 = x2)
    (H : ∀ pr' v1 v2 b' bo' t, post (nI (rt_ct x2 64) - nI (rt_ct w2 64)) (rt_S pr' (rt_ad E k x y z) (rt_V v1 v2) b' bo' t)) :
    wpX_effect post (rt_S pr E (rt_V w1 w2) b bo te) p0 p1 p2 p3 := by
  unfold wpX_effect
  refine rt_rule e00 (by omega) (br_f rt_10 (rt_fok hx hy hz e0 e1 e2 (br_f rt_10 (pk_eq pr 127 (fun e => absurd e (by omega)) (fun _ => ?_)))))
  refine rt_matches e00 h1 ?_
  refine rt_add (k := k) e0 e1 e2 hx hy hz hk hlo hhi (by omega) hpn hp' hE h0 (by omega) h2 hx1 hx2 (fun b1 bo1 t1 => ?_)
  refine rt_matches (E := rt_ad E k x y z) e00 h1 ?_
  exact rt_remove (E := rt_ad E k x y z) rfl hk hin hp' hpr (rt_adb hE (by omega) (by omega) (by omega)) h0 (Nat.le_of_eq h1) h2 (fun pr' v1 v2 b' bo' t => H pr' v1 v2 b' bo' t)
theorem rt_init {post : St2 → Prop} (H : post (rt_S 0 (fun _ _ => 0) (rt_V 0 0) (fun _ => 0) (fun _ => 0) (fun _ => 0))) : wpX_init post 12 132 0 := by
  have e : rt_nu (rt_nu (rt_nu (fun _ => 0) 0 1) 11 1) 22 1 = rt_V 0 0 := by
    funext i
    unfold rt_V rt_nu
    dsimp only
    repeat' split
    all_goals (first | rfl | omega)
  rw [← e] at H
  have F : ∃ n, wX_init_99 post 12 132 12 132 0 n 0 (fun _ => 0) (fun _ => 0) (fun _ => 0) (fun _ => 0) (fun _ => 0) (fun _ => 0) (fun _ => 0) (fun _ => 0) (rt_l (fun _ => 0)) (fun _ => 0) (fun _ => 0) (fun _ => 0) := by
    refine ⟨4, pk_le 3 0 (fun z => absurd z (by omega)) (fun _ => ⟨pk_in 0 33 (by omega) (rt_r0 0), nm_r (rt_lu (k := 0) (v := 1) (rt_r0 0) (by omega) rfl) (nm_r (nI_1 0) ?_)⟩)⟩
    refine pk_le 3 1 (fun z => absurd z (by omega)) (fun _ => ⟨pk_in 11 33 (by omega) (rt_r0 1), nm_r (rt_lu (k := 11) (v := 1) (rt_r0 1) (by omega) rfl) (nm_r (nI_1 1) ?_)⟩)
    refine pk_le 3 2 (fun z => absurd z (by omega)) (fun _ => ⟨pk_in 22 33 (by omega) (rt_r0 2), nm_r (rt_lu (k := 22) (v := 1) (rt_r0 2) (by omega) rfl) (nm_r (nI_1 2) ?_)⟩)
    exact pk_le 3 3 (fun _ => H) (fun z => absurd z (by omega))
  unfold wpX_init
  exact ⟨by omega, by omega, by omega, by omega, by omega, by omega, by omega, by omega, by omega, by omega, by omega, by omega, by omega, by omega, by omega, by omega, by omega, by omega, by omega, by omega, by omega, by omega, by omega, by omega, F⟩
end
section
/-! ===== what the words are in the law's five states ===== -/
def rt_E1 : Nat → Nat → Nat := rt_cn (fun _ _ => 0) 176
def rt_E2 (n : Nat) : Nat → Nat → Nat := rt_cn rt_E1 (245 + 256 * n)
def rt_G1 (n a b : Nat) : Nat → Nat → Nat := rt_ad (rt_E2 n) 0 0 a b
def rt_G2 (n a b c d : Nat) : Nat → Nat → Nat := rt_ad (rt_G1 n a b) 1 0 c d
def rt_G3 (n a b c d e : Nat) : Nat → Nat → Nat := rt_ad (rt_G2 n a b c d) 2 1 e 0
def rt_G4 (n a b c d e : Nat) : Nat → Nat → Nat := rt_ad (rt_G3 n a b c d e) 3 1 b 3
def rt_w3 (n b d e : Nat) : Nat := if n = 0 then (if b = e then 2 ^ 16 else 0) + (if d = e then 2 ^ 17 else 0) else (if b = e then 0 else 2 ^ 56) + (if d = e then 0 else 2 ^ 57)
def rt_w4 (n b d e : Nat) : Nat := if n = 0 then rt_w3 0 b d e + (2 ^ 24 + (if d = b then 2 ^ 25 else 0)) else (if d = e ∨ d = b then 0 else 2 ^ 57)
theorem rt_c1a : rt_W1 0 rt_E1 1 7 true 0 = 0 := by decide +kernel
theorem rt_c1b : rt_W2 0 rt_E1 1 7 true 0 0 0 = 0 := by decide +kernel
theorem rt_c2a : ∀ n, n < 2 → rt_W1 0 (rt_E2 n) 1 7 true 0 = 0 := by decide +kernel
theorem rt_c2b : ∀ n, n < 2 → rt_W2 0 (rt_E2 n) 1 7 true 0 0 0 = 0 := by decide +kernel
theorem rt_s1a : ∀ n, n < 2 → ∀ a, a < 4 → ∀ b, b < 4 → rt_W1 1 (rt_G1 n a b) 1 0 true 0 = 1 := by decide +kernel
theorem rt_s1b : ∀ n, n < 2 → ∀ a, a < 4 → ∀ b, b < 4 → rt_W2 1 (rt_G1 n a b) 1 0 true 0 0 1 = n * 2 ^ 56 := by decide +kernel
theorem rt_s2a : ∀ n, n < 2 → ∀ a, a < 4 → ∀ b, b < 4 → ∀ c, c < 4 → ∀ d, d < 4 → rt_W1 3 (rt_G2 n a b c d) 1 1 true 1 = 3 := by decide +kernel
theorem rt_s2b : ∀ n, n < 2 → ∀ a, a < 4 → ∀ b, b < 4 → ∀ c, c < 4 → ∀ d, d < 4 → rt_W2 3 (rt_G2 n a b c d) 1 1 true 1 (n * 2 ^ 56) 3 = n * (2 ^ 56 + 2 ^ 57) := by decide +kernel
end
section
theorem rt_s3a : ∀ n, n < 2 → ∀ a, a < 4 → ∀ b, b < 4 → ∀ c, c < 4 → ∀ d, d < 4 → ∀ e, e < 4 → rt_W1 7 (rt_G3 n a b c d e) 1 2 true 3 = 3 := by decide +kernel
theorem rt_s3b : ∀ n, n < 2 → ∀ a, a < 4 → ∀ b, b < 4 → ∀ c, c < 4 → ∀ d, d < 4 → ∀ e, e < 4 → rt_W2 7 (rt_G3 n a b c d e) 1 2 true 3 (n * (2 ^ 56 + 2 ^ 57)) 3 = rt_w3 n b d e := by decide +kernel
end
section
theorem rt_s4a : ∀ n, n < 2 → ∀ a, a < 4 → ∀ b, b < 4 → ∀ c, c < 4 → ∀ d, d < 4 → ∀ e, e < 4 → rt_W1 15 (rt_G4 n a b c d e) 1 3 true 3 = 3 := by decide +kernel
theorem rt_s4b : ∀ n, n < 2 → ∀ a, a < 4 → ∀ b, b < 4 → ∀ c, c < 4 → ∀ d, d < 4 → ∀ e, e < 4 → rt_W2 15 (rt_G4 n a b c d e) 1 3 true 3 (rt_w3 n b d e) 3 = rt_w4 n b d e := by decide +kernel
end
section
/-! ===== the law's answer, out of what the calls gave ===== -/
theorem rt_if {c A B : Prop} [Decidable c] {x y : Bool} (hA : x = true → A) (hB : y = true → B) (H : (if c then x else y) = true) : (c → A) ∧ (¬ c → B) :=
  ⟨fun h => hA (by rw [if_pos h] at H; exact H), fun h => hB (by rw [if_neg h] at H; exact H)⟩
theorem rt_ff {B : Prop} : false = true → B := fun h => absurd h (by decide)
def rt_q330 (x11 x12 x13 x14 x15 x19 x20 z0 : Int32) : Bool := if x11 = 2 then (if x12 = x19 then (if x13 = x20 then (if x14 = 2 then (if x15 = z0 then true else false) else false) else false) else false) else false
theorem rt_L330 {mc ms kc ks : Nat} {x11 x12 x13 x14 x15 x19 x20 z0 : Int32} : rt_q330 x11 x12 x13 x14 x15 x19 x20 z0 = true → wL_lawOf_330 (fun r _ => r = 1) mc ms x11 x12 x13 x14 x15 x19 x20 z0 kc ks :=
  rt_if (rt_if (rt_if (rt_if (rt_if (fun _ => rfl) rt_ff) rt_ff) rt_ff) rt_ff) rt_ff
def rt_q294 (x6 x8 x11 x12 x13 x14 x15 x17 x19 x20 z0 : Int32) : Bool := if x17 = 0 then rt_q330 x11 x12 x13 x14 x15 x19 x20 (-z0 - 0) else (if x8 = x6 then rt_q330 x11 x12 x13 x14 x15 x19 x20 (-z0 - 1) else rt_q330 x11 x12 x13 x14 x15 x19 x20 (-z0 - 0))
theorem rt_L294 {mc ms kc ks : Nat} {x6 x8 x11 x12 x13 x14 x15 x17 x19 x20 z0 : Int32} : rt_q294 x6 x8 x11 x12 x13 x14 x15 x17 x19 x20 z0 = true → wL_lawOf_294 (fun r _ => r = 1) mc ms x6 x8 x11 x12 x13 x14 x15 x17 x19 x20 z0 kc ks :=
  rt_if (rt_L330 (mc := mc) (ms := ms) (kc := kc) (ks := ks)) (rt_if (rt_L330 (mc := mc) (ms := ms) (kc := kc) (ks := ks)) (rt_L330 (mc := mc) (ms := ms) (kc := kc) (ks := ks)))
def rt_q277 (x6 x8 x10 x11 x12 x13 x14 x15 x16 x17 x19 z0 : Int32) : Bool := if x10 = 0 then (if x8 = x6 then rt_q330 x11 x12 x13 x14 x15 x19 z0 (1 + 1) else rt_q330 x11 x12 x13 x14 x15 x19 z0 (1 + 0)) else (if x16 = 0 then rt_q294 x6 x8 x11 x12 x13 x14 x15 x17 x19 z0 0 else rt_q294 x6 x8 x11 x12 x13 x14 x15 x17 x19 z0 1)
theorem rt_L277 {mc ms kc ks : Nat} {x6 x8 x10 x11 x12 x13 x14 x15 x16 x17 x19 z0 : Int32} : rt_q277 x6 x8 x10 x11 x12 x13 x14 x15 x16 x17 x19 z0 = true → wL_lawOf_277 (fun r _ => r = 1) mc ms x6 x8 x10 x11 x12 x13 x14 x15 x16 x17 x19 z0 kc ks :=
  rt_if (rt_if rt_L330 rt_L330) (rt_if rt_L294 rt_L294)
def rt_q237 (x6 x8 x10 x11 x12 x13 x14 x15 x16 x17 x18 z0 z1 : Int32) : Bool := if x16 = 0 then (if x17 = 0 then rt_q277 x6 x8 x10 x11 x12 x13 x14 x15 x16 x17 (z1 + z0) (-1) else rt_q277 x6 x8 x10 x11 x12 x13 x14 x15 x16 x17 (z1 + z0) ((1 + (8 * x18)) + 448)) else rt_q277 x6 x8 x10 x11 x12 x13 x14 x15 x16 x17 (z1 + z0) ((8 * x18) + 448)
theorem rt_L237 {mc ms kc ks : Nat} {x6 x8 x10 x11 x12 x13 x14 x15 x16 x17 x18 z0 z1 : Int32} (H : rt_q237 x6 x8 x10 x11 x12 x13 x14 x15 x16 x17 x18 z0 z1 = true) : wL_lawOf_237 (fun r _ => r = 1) mc ms x6 x8 x10 x11 x12 x13 x14 x15 x16 x17 x18 z0 z1 kc ks :=
  nm_e (rt_if (rt_if rt_L277 rt_L277) rt_L277 H)
def rt_q227 (x6 x8 x10 x11 x12 x13 x14 x15 x16 x17 x18 z0 : Int32) : Bool := if x17 = 0 then rt_q237 x6 x8 x10 x11 x12 x13 x14 x15 x16 x17 x18 0 z0 else rt_q237 x6 x8 x10 x11 x12 x13 x14 x15 x16 x17 x18 1 z0
theorem rt_L227 {mc ms kc ks : Nat} {x6 x8 x10 x11 x12 x13 x14 x15 x16 x17 x18 z0 : Int32} : rt_q227 x6 x8 x10 x11 x12 x13 x14 x15 x16 x17 x18 z0 = true → wL_lawOf_227 (fun r _ => r = 1) mc ms x6 x8 x10 x11 x12 x13 x14 x15 x16 x17 x18 z0 kc ks :=
  rt_if rt_L237 rt_L237
def rt_q215 (x6 x8 x10 x11 x12 x13 x14 x15 x16 x17 z0 : Int32) : Bool := if x16 = 0 then rt_q227 x6 x8 x10 x11 x12 x13 x14 x15 x16 x17 z0 0 else rt_q227 x6 x8 x10 x11 x12 x13 x14 x15 x16 x17 z0 1
theorem rt_L215 {mc ms kc ks : Nat} {x6 x8 x10 x11 x12 x13 x14 x15 x16 x17 z0 : Int32} : rt_q215 x6 x8 x10 x11 x12 x13 x14 x15 x16 x17 z0 = true → wL_lawOf_215 (fun r _ => r = 1) mc ms x6 x8 x10 x11 x12 x13 x14 x15 x16 x17 z0 kc ks :=
  rt_if rt_L227 rt_L227
def rt_q202 (x6 x8 x10 x11 x12 x13 x14 x15 x16 z0 : Int32) : Bool := if x10 = 0 then rt_q215 x6 x8 x10 x11 x12 x13 x14 x15 x16 z0 2 else rt_q215 x6 x8 x10 x11 x12 x13 x14 x15 x16 z0 7
theorem rt_L202 {mc ms kc ks : Nat} {x6 x8 x10 x11 x12 x13 x14 x15 x16 z0 : Int32} : rt_q202 x6 x8 x10 x11 x12 x13 x14 x15 x16 z0 = true → wL_lawOf_202 (fun r _ => r = 1) mc ms x6 x8 x10 x11 x12 x13 x14 x15 x16 z0 kc ks :=
  rt_if rt_L215 rt_L215
def rt_q192 (x6 x8 x10 x11 x12 x13 x14 x15 x16 z0 : Int32) : Bool := if z0 = x10 then rt_q202 x6 x8 x10 x11 x12 x13 x14 x15 x16 0 else rt_q202 x6 x8 x10 x11 x12 x13 x14 x15 x16 1
theorem rt_L192 {mc ms kc ks : Nat} {x6 x8 x10 x11 x12 x13 x14 x15 x16 z0 : Int32} : rt_q192 x6 x8 x10 x11 x12 x13 x14 x15 x16 z0 = true → wL_lawOf_192 (fun r _ => r = 1) mc ms x6 x8 x10 x11 x12 x13 x14 x15 x16 z0 kc ks :=
  rt_if rt_L202 rt_L202
def rt_q178 (x6 x8 x9 x10 x11 x12 x13 x14 x15 z0 : Int32) : Bool := if x8 = x9 then rt_q192 x6 x8 x10 x11 x12 x13 x14 x15 z0 1 else rt_q192 x6 x8 x10 x11 x12 x13 x14 x15 z0 0
theorem rt_L178 {mc ms kc ks : Nat} {x6 x8 x9 x10 x11 x12 x13 x14 x15 z0 : Int32} : rt_q178 x6 x8 x9 x10 x11 x12 x13 x14 x15 z0 = true → wL_lawOf_178 (fun r _ => r = 1) mc ms x6 x8 x9 x10 x11 x12 x13 x14 x15 z0 kc ks :=
  rt_if rt_L192 rt_L192
def rt_q168 (x6 x8 x9 x10 x11 x12 x13 x14 x15 z0 : Int32) : Bool := if z0 = x10 then rt_q178 x6 x8 x9 x10 x11 x12 x13 x14 x15 0 else rt_q178 x6 x8 x9 x10 x11 x12 x13 x14 x15 1
theorem rt_L168 {mc ms kc ks : Nat} {x6 x8 x9 x10 x11 x12 x13 x14 x15 z0 : Int32} : rt_q168 x6 x8 x9 x10 x11 x12 x13 x14 x15 z0 = true → wL_lawOf_168 (fun r _ => r = 1) mc ms x6 x8 x9 x10 x11 x12 x13 x14 x15 z0 kc ks :=
  rt_if rt_L178 rt_L178
def rt_all (n b d e : Nat) : Bool := if nI b = nI e then rt_q168 (nI b) (nI d) (nI e) (nI n) (nI 2) (nI (rt_ct (rt_w3 n b d e) 64)) (rt_fm (rt_w3 n b d e) 64 0) (nI (rt_ct 3 8)) (nI (rt_ct (rt_w4 n b d e) 64) - nI (rt_ct (rt_w3 n b d e) 64)) 1 else rt_q168 (nI b) (nI d) (nI e) (nI n) (nI 2) (nI (rt_ct (rt_w3 n b d e) 64)) (rt_fm (rt_w3 n b d e) 64 0) (nI (rt_ct 3 8)) (nI (rt_ct (rt_w4 n b d e) 64) - nI (rt_ct (rt_w3 n b d e) 64)) 0
theorem rt_ok : ∀ n, n < 2 → ∀ b, b < 4 → ∀ d, d < 4 → ∀ e, e < 4 → rt_all n b d e = true := by decide +kernel
end
section
theorem rt_E1b : ∀ i j, rt_E1 i j < 8 := rt_cnb (fun _ _ => by decide) (by decide) (by decide)
theorem rt_E2b {n : Nat} (hn : n < 2) : ∀ i j, rt_E2 n i j < 8 := rt_cnb rt_E1b (by omega) (by decide)
/-- the law behind its first condition -/
theorem rt_80 {mc ms kc ks n a b c d e : Nat} {z0 : Int32} {bf : Nat → Nat} {bo te : Nat → Int32} (hn : n < 2) (ha : a < 4) (hb : b < 4) (hc : c < 4) (hd : d < 4) (he : e < 4) (hz : 245 + z0 = nI (245 + 256 * n)) :
    wL_lawOf_80 (fun r _ => r = 1) mc ms (nI a) (nI b) (nI c) (nI d) (nI e) (nI n) z0 245 1 kc ks (nI 0) (rt_f (rt_E1 0)) (rt_f (rt_E1 1)) (rt_f (rt_E1 2)) (rt_f (rt_E1 3)) (rt_f (rt_E1 4)) (rt_f (rt_E1 5)) (rt_f (rt_E1 6)) (rt_f (rt_E1 7)) (rt_l (rt_V 0 0)) (rt_l bf) bo te := by
  have g1 : ∀ i j, rt_G1 n a b i j < 8 := rt_adb (rt_E2b hn) (by omega) (by omega) (by omega)
  have g2 : ∀ i j, rt_G2 n a b c d i j < 8 := rt_adb g1 (by omega) (by omega) (by omega)
  have g3 : ∀ i j, rt_G3 n a b c d e i j < 8 := rt_adb g2 (by omega) (by omega) (by omega)
  unfold wL_lawOf_80
  refine rt_cond (E := rt_E1) (q := 245 + 256 * n) (x1 := 0) (x2 := 0) rfl hz (by omega) (by omega) (by omega) rt_E1b (by decide) (rt_c2a n hn) (rt_c2b n hn) (fun b1 bo1 t1 => ?_)
  refine rt_add (E := rt_E2 n) (k := 0) (pn := 1) (x := 0) (y := a) (z := b) (x1 := 1) (x2 := n * 2 ^ 56) rfl rfl rfl (by omega) ha hb (by omega) (fun j hj => absurd hj (by omega)) (by decide) (by omega) (by decide) (by omega) (rt_E2b hn) rfl (Nat.le_refl 2) rfl (rt_s1a n hn a ha b hb) (rt_s1b n hn a ha b hb) (fun b2 bo2 t2 => ?_)
  refine rt_add (E := rt_G1 n a b) (k := 1) (pn := 3) (x := 0) (y := c) (z := d) (x1 := 3) (x2 := n * (2 ^ 56 + 2 ^ 57)) rfl rfl rfl (by omega) hc hd (by omega) (by decide) (by decide) (by omega) (by decide) (by omega) g1 rfl (Nat.le_refl 2) rfl (rt_s2a n hn a ha b hb c hc d hd) (rt_s2b n hn a ha b hb c hc d hd) (fun b3 bo3 t3 => ?_)
  refine rt_add (E := rt_G2 n a b c d) (k := 2) (pn := 7) (x := 1) (y := e) (z := 0) (x1 := 3) (x2 := rt_w3 n b d e) rfl rfl rfl (by omega) he (by omega) (by omega) (by decide) (by decide) (by omega) (by decide) (by omega) g2 rfl (Nat.le_refl 2) rfl (rt_s3a n hn a ha b hb c hc d hd e he) (rt_s3b n hn a ha b hb c hc d hd e he) (fun b4 bo4 t4 => ?_)
  refine rt_matches (E := rt_G3 n a b c d e) rfl rfl ?_
  refine rt_match (E := rt_G3 n a b c d e) rfl rfl rfl ?_
  refine rt_part (E := rt_G3 n a b c d e) rfl rfl rfl ?_
  refine rt_effect (E := rt_G3 n a b c d e) (k := 3) (pn := 15) (x := 1) (y := b) (z := 3) (x1 := 3) (x2 := rt_w4 n b d e) rfl rfl rfl rfl (by omega) hb (by omega) (by omega) (by decide) (by decide) (by omega) (by decide) (by omega) (by decide) (by decide) g3 rfl rfl rfl (rt_s4a n hn a ha b hb c hc d hd e he) (rt_s4b n hn a ha b hb c hc d hd e he) (fun p5 v1 v2 b5 bo5 t5 => ?_)
  exact rt_if rt_L168 rt_L168 (rt_ok n hn b hb d hd e he)
theorem rt_50 {mc ms kc ks n a b c d e : Nat} {z0 : Int32} (hn : n < 2) (ha : a < 4) (hb : b < 4) (hc : c < 4) (hd : d < 4) (he : e < 4) (hz : z0 = nI n) :
    wL_lawOf_50 (fun r _ => r = 1) mc ms (nI a) (nI b) (nI c) (nI d) (nI e) z0 kc ks 0 (fun _ => 0) (fun _ => 0) (fun _ => 0) (fun _ => 0) (fun _ => 0) (fun _ => 0) (fun _ => 0) (fun _ => 0) (rt_l (rt_V 0 0)) (fun _ => 0) (fun _ => 0) (fun _ => 0) := by
  subst hz
  refine rt_cond (pr := 0) (E := fun _ _ => 0) (b := fun _ => 0) (q := 176) (x1 := 0) (x2 := 0) rfl rfl (by omega) (by omega) (by omega) (fun _ _ => by decide) (by decide) rt_c1a rt_c1b (fun b1 bo1 t1 => ?_)
  refine pk_eq n 0 (fun z => ?_) (fun z => ?_)
  · exact rt_80 hn ha hb hc hd he (by subst z; decide)
  · have z1 : n = 1 := by omega
    exact rt_80 hn ha hb hc hd he (by subst z1; decide)
theorem rt_cell {post : Int32 → Prop} {L : Nat} {xs : Nat → Int32} {i : Nat} {p : Int32} (hp : p = nI i) (hi : i < 4) (hL : L ≤ 4) (H : ∀ v, post v) : wpL_cellAt post L xs () p := by
  subst hp
  exact pk_le L i (fun _ => H 0) (fun z => ⟨pk_in i L z, H _⟩)
theorem i_vc (xs : Nat → Int32) (L : Nat) (hL : L ≤ 4) : wpL_law (fun r => r = 1) L xs := by
  unfold wpL_law
  refine rt_cell (i := 0) rfl (by omega) hL (fun p => rt_cell (i := 1) rfl (by omega) hL (fun q => rt_cell (i := 2) rfl (by omega) hL (fun u => rt_cell (i := 3) rfl (by omega) hL (fun f => ?_))))
  refine ⟨13, 145, by omega, by omega, ?_⟩
  unfold wpL_lawOf
  refine ⟨by omega, by omega, 12, 132, by omega, by omega, rt_init ?_⟩
  obtain ⟨a, ha, ea⟩ := pk_andE p (m := 3) 2 (by decide)
  obtain ⟨b, hb, eb⟩ := pk_andE (p >>> ((2 : Int32) &&& 31)) (m := 3) 2 (by decide)
  obtain ⟨c, hc, ec⟩ := pk_andE q (m := 3) 2 (by decide)
  obtain ⟨d, hd, ed⟩ := pk_andE (q >>> ((2 : Int32) &&& 31)) (m := 3) 2 (by decide)
  obtain ⟨e, he, ee⟩ := pk_andE u (m := 3) 2 (by decide)
  refine nm_r ea (nm_r eb (nm_r ec (nm_r ed (nm_r ee ?_))))
  exact br_c (fun _ => rt_50 (n := 1) (by omega) ha hb hc hd he rfl) (fun _ => rt_50 (n := 0) (by omega) ha hb hc hd he rfl)
end
