section
/-! ===== a long as an unsigned number ===== -/
def gb_u (x : Int64) : Nat := x.toUInt64.toNat
theorem gb_lt (x : Int64) : gb_u x < 18446744073709551616 := x.toUInt64.toNat_lt
theorem gb_inj {x y : Int64} (h : gb_u x = gb_u y) : x = y := congrArg UInt64.toInt64 (UInt64.toNat_inj.mp h)
theorem gb_eq {x y : Int64} : x = y ↔ gb_u x = gb_u y := ⟨fun h => by rw [h], gb_inj⟩
theorem gb_0 : gb_u 0 = 0 := by decide
theorem gb_1 : gb_u 1 = 1 := by decide
theorem gb_eq0 {x : Int64} : x = 0 ↔ gb_u x = 0 := by rw [gb_eq, gb_0]
theorem gb_and (x y : Int64) : gb_u (x &&& y) = gb_u x &&& gb_u y := UInt64.toNat_and _ _
theorem gb_or (x y : Int64) : gb_u (x ||| y) = gb_u x ||| gb_u y := UInt64.toNat_or _ _
theorem gb_xor (x y : Int64) : gb_u (x ^^^ y) = gb_u x ^^^ gb_u y := UInt64.toNat_xor _ _
theorem gb_m1 : gb_u (-1) = 18446744073709551615 := by decide
theorem gb_not (x : Int64) : gb_u (x ^^^ (-1)) = gb_u x ^^^ 18446744073709551615 := by rw [gb_xor, gb_m1]
theorem gb_neg (x : Int64) : gb_u (-x) = (18446744073709551616 - gb_u x) % 18446744073709551616 := UInt64.toNat_neg x.toUInt64
theorem gb_dec (x : Int64) : gb_u (x - 1) = (18446744073709551615 + gb_u x) % 18446744073709551616 := UInt64.toNat_sub x.toUInt64 (Int64.toUInt64 1)
theorem gb_cs : ∀ k, k < 64 → (((nI k).toInt64 &&& 63).toBitVec.smod 64).toNat = k := by decide +kernel
theorem gb_cu : ∀ k, k < 64 → ((nI k).toInt64.toUInt64 &&& Int64.toUInt64 63).toNat % 64 = k := by decide +kernel
theorem gb_shr (x : Int64) {k : Nat} (hk : k < 64) : gb_u (x.toUInt64 >>> ((nI k).toInt64.toUInt64 &&& Int64.toUInt64 63)).toInt64 = gb_u x >>> k := by
  show (x.toUInt64 >>> ((nI k).toInt64.toUInt64 &&& Int64.toUInt64 63)).toNat = _
  rw [UInt64.toNat_shiftRight, gb_cu k hk]
  rfl
theorem gb_shl (x : Int64) {k : Nat} (hk : k < 64) : gb_u (x <<< ((nI k).toInt64 &&& 63)) = (gb_u x <<< k) % 18446744073709551616 := by
  have h := gb_cs k hk
  show (x.toBitVec <<< (((nI k).toInt64 &&& 63).toBitVec.smod 64).toNat).toNat = _
  rw [h, BitVec.toNat_shiftLeft]
  rfl
theorem gb_bit {k : Nat} (hk : k < 64) : gb_u ((1 : Int64) <<< ((nI k).toInt64 &&& 63)) = 1 <<< k := by
  rw [gb_shl 1 hk, gb_1, Nat.shiftLeft_eq, Nat.one_mul]
  exact Nat.mod_eq_of_lt (Nat.lt_of_lt_of_le (Nat.pow_lt_pow_right (by decide) hk) (by decide))
theorem gb_tst (x : Int64) {k : Nat} (hk : k < 64) : ((x.toUInt64 >>> ((nI k).toInt64.toUInt64 &&& Int64.toUInt64 63)).toInt64 &&& 1) = 1 ↔ (gb_u x >>> k) % 2 = 1 := by
  rw [gb_eq, gb_and, gb_shr x hk, gb_1, Nat.and_one_is_mod]
end
section
/-! ===== the picture: sets of points as naturals (bit q for point q) ===== -/
def gb_A : Nat := 562949953421311
def gb_NF : Nat := 558517276622718
def gb_NL : Nat := 279258638311359
/-- around -/
def gb_ar (x : Nat) : Nat := (((x >>> 7 ||| (x <<< 7) % 18446744073709551616) ||| (x &&& gb_NF) >>> 1) ||| ((x &&& gb_NL) <<< 1) % 18446744073709551616) &&& gb_A
/-- one round of grown -/
def gb_nx (w x : Nat) : Nat := x ||| (gb_ar x &&& w)
def gb_gl (w : Nat) : Nat → Nat → Nat
  | 0, x => x
  | n + 1, x => bif Nat.beq (gb_nx w x) x then x else gb_gl w n (gb_nx w x)
/-- grown -/
def gb_gr (x w : Nat) : Nat := gb_gl w 50 (x &&& w)
/-- how many of the first k points are in a set -/
def gb_sz (x : Nat) : Nat → Nat
  | 0 => 0
  | k + 1 => gb_sz x k + (x >>> k) % 2
/-- at -/
def gb_atv (B W q : Nat) : Nat := bif Nat.beq ((B >>> q) % 2) 1 then 0 else bif Nat.beq ((W >>> q) % 2) 1 then 1 else 2
/-- groupAt -/
def gb_ga (B W q : Nat) : Nat := bif Nat.beq (B &&& 1 <<< q) 0 then gb_gr (1 <<< q) W else gb_gr (1 <<< q) B
/-- empty -/
def gb_em (B W : Nat) : Nat := gb_A &&& ((B ||| W) ^^^ 18446744073709551615)
/-- liberties -/
def gb_lb (B W q : Nat) : Nat := gb_sz (gb_ar (gb_ga B W q) &&& gb_em B W) 49
/-- stones -/
def gb_st (p B W : Nat) : Nat := bif Nat.beq p 0 then B else W
/-- the group of the lowest point of a set -/
def gb_lo (L : Nat) : Nat := gb_gr (L &&& (18446744073709551616 - L) % 18446744073709551616) L
/-- exactly one point -/
def gb_on (x : Nat) : Bool := !(Nat.beq x 0) && Nat.beq (x &&& (18446744073709551615 + x) % 18446744073709551616) 0
def gb_al (E : Nat) : Nat → Nat → Nat → Nat
  | 0, _, c => c
  | n + 1, L, c => bif Nat.beq L 0 then c else gb_al E n (L &&& (gb_lo L ^^^ 18446744073709551615)) (bif gb_on (gb_ar (gb_lo L) &&& E) then c + gb_sz (gb_lo L) 49 else c)
/-- inAtari -/
def gb_ia (p B W : Nat) : Nat := gb_al (gb_em B W) 49 (gb_st p B W) 0
/-- dead -/
def gb_dd (S O : Nat) : Nat := S &&& (gb_gr (S &&& gb_ar O) S ^^^ 18446744073709551615)
/-- attempt: mine, the free points, caught, what is left of theirs, the liberties, the board after it -/
def gb_mi (p B W q : Nat) : Nat := gb_st p B W ||| 1 <<< q
def gb_op (p B W q : Nat) : Nat := gb_A &&& ((gb_mi p B W q ||| gb_st (1 - p) B W) ^^^ 18446744073709551615)
def gb_ca (p B W q : Nat) : Nat := gb_dd (gb_st (1 - p) B W) (gb_op p B W q)
def gb_t2 (p B W q : Nat) : Nat := gb_st (1 - p) B W &&& (gb_ca p B W q ^^^ 18446744073709551615)
def gb_lv (p B W q : Nat) : Nat := gb_ar (gb_gr (1 <<< q) (gb_mi p B W q)) &&& (gb_op p B W q ||| gb_ca p B W q)
def gb_tB (p B W q : Nat) : Nat := bif Nat.beq p 0 then gb_mi p B W q else gb_t2 p B W q
def gb_tW (p B W q : Nat) : Nat := bif Nat.beq p 0 then gb_t2 p B W q else gb_mi p B W q
/-- what was stored, newest first: black, white, taken -/
def gb_ko (H : List (Nat × Nat × Nat)) (TB TW : Nat) : Bool := match H with
  | [] => false
  | e :: _ => Nat.beq TB e.1 && Nat.beq TW e.2.1
/-- set -/
def gb_sB (p q B : Nat) : Nat := bif Nat.beq p 0 then B ||| 1 <<< q else B
def gb_sW (p q W : Nat) : Nat := bif Nat.beq p 0 then W else W ||| 1 <<< q
/-! ===== the constructor's loop ===== -/
def gb_i1 : Nat → Nat
  | 0 => 0
  | n + 1 => gb_i1 n ||| 1 <<< n
def gb_i3 : Nat → Nat
  | 0 => 0
  | n + 1 => bif Nat.beq (n % 7) 0 then gb_i3 n ||| 1 <<< n else gb_i3 n
def gb_i5 : Nat → Nat
  | 0 => 0
  | n + 1 => bif Nat.beq (n % 7) 6 then gb_i5 n ||| 1 <<< n else gb_i5 n
theorem gb_ini : gb_i1 49 = gb_A ∧ gb_i1 49 &&& (gb_i3 49 ^^^ 18446744073709551615) = gb_NF ∧ gb_i1 49 &&& (gb_i5 49 ^^^ 18446744073709551615) = gb_NL := by decide +kernel
/-! ===== the law's facts about one position ===== -/
/-- the board before the first move: B, W; after it: B1, W1; s the first player, e the eye, m the mouth -/
def gb_c2 (s e m B W B1 W1 : Nat) : Bool :=
  Nat.blt e 49 && (Nat.blt m 49 && (Nat.beq (gb_atv B W e) (1 - s) && (Nat.beq (gb_lb B W e) 1 && (Nat.beq (gb_ia (1 - s) B W) 1 &&
  (Nat.beq ((B ||| W) &&& 1 <<< m) 0 && (!(Nat.beq (gb_lv s B W m) 0) && (Nat.beq (gb_sz (gb_ca s B W m) 49) 1 &&
  (Nat.beq (gb_tB s B W m) B1 && (Nat.beq (gb_tW s B W m) W1 &&
  (Nat.beq ((B1 ||| W1) &&& 1 <<< e) 0 && (!(Nat.beq (gb_lv (1 - s) B1 W1 e) 0) && (Nat.beq (gb_sz (gb_ca (1 - s) B1 W1 e) 49) 1 &&
  (Nat.beq (gb_tB (1 - s) B1 W1 e) B && (Nat.beq (gb_tW (1 - s) B1 W1 e) W && (!(Nat.beq B B1 && Nat.beq W W1) &&
  (Nat.beq (gb_atv B W m) 2 && (Nat.beq (gb_atv B1 W1 m) s &&
  (!(Nat.beq (gb_lv (1 - s) B W m) 0) && (Nat.beq (gb_sz (gb_ca (1 - s) B W m) 49) 0 && Nat.beq (gb_sz (gb_ga B W e) 49) 1)))))))))))))))))))
theorem gb_bq {a b : Nat} (h : Nat.beq a b = true) : a = b := Nat.eq_of_beq_eq_true h
theorem gb_bn {a b : Nat} (h : (!(Nat.beq a b)) = true) : ¬ a = b := by
  intro z
  subst z
  rw [Nat.beq_refl] at h
  exact absurd h (by decide)
theorem gb_bs {a b : Bool} (h : (a && b) = true) : a = true ∧ b = true := by
  cases a <;> cases b <;> first | exact ⟨rfl, rfl⟩ | exact absurd h (by decide)
/-! ===== the seven stones ===== -/
def gb_ls (q r d s : Nat) : List (Nat × Nat) := [(s, q + r), (s, q + d), (s, q + r + 2 * d), (1 - s, q + 2 * r), (1 - s, q + 3 * r + d), (1 - s, q + 2 * r + 2 * d), (1 - s, q + r + d)]
def gb_sq (B W : Nat) : List (Nat × Nat) → Bool
  | [] => true
  | e :: l => Nat.blt e.2 49 && (Nat.beq ((B ||| W) &&& 1 <<< e.2) 0 && gb_sq (gb_sB e.1 e.2 B) (gb_sW e.1 e.2 W) l)
def gb_fB (B : Nat) : List (Nat × Nat) → Nat
  | [] => B
  | e :: l => gb_fB (gb_sB e.1 e.2 B) l
def gb_fW (W : Nat) : List (Nat × Nat) → Nat
  | [] => W
  | e :: l => gb_fW (gb_sW e.1 e.2 W) l
theorem gb_lt2 {a b : Nat} (h : Nat.blt a b = true) : a < b := Nat.le_of_ble_eq_true h
theorem gb_sqc {B W p q : Nat} {l : List (Nat × Nat)} (h : gb_sq B W ((p, q) :: l) = true) : q < 49 ∧ (B ||| W) &&& 1 <<< q = 0 ∧ gb_sq (gb_sB p q B) (gb_sW p q W) l = true :=
  ⟨gb_lt2 (gb_bs h).1, gb_bq (gb_bs (gb_bs h).2).1, (gb_bs (gb_bs h).2).2⟩
/-- a number, and what is asked of it -/
def gb_fo (n : Nat) (k : Nat → Bool) : Bool := match n with
  | 0 => k 0
  | m + 1 => k (m + 1)
theorem gb_fo_e (n : Nat) (k : Nat → Bool) : gb_fo n k = k n := by cases n <;> rfl
def gb_ck (q r d s : Nat) : Bool := gb_sq 0 0 (gb_ls q r d s) && gb_fo (gb_fB 0 (gb_ls q r d s)) (fun B => gb_fo (gb_fW 0 (gb_ls q r d s)) (fun W => gb_fo (gb_tB s B W (q + 2 * r + d)) (fun B1 => gb_fo (gb_tW s B W (q + 2 * r + d)) (fun W1 => gb_c2 s (q + r + d) (q + 2 * r + d) B W B1 W1))))
theorem gb_ckA : ∀ a, a < 4 → ∀ b, b < 5 → ∀ s, s < 2 → gb_ck (7 * b + a) 1 7 s = true := by decide +kernel
theorem gb_ckB : ∀ a, a < 4 → ∀ b, b < 5 → ∀ s, s < 2 → gb_ck (7 * a + b) 7 1 s = true := by decide +kernel
end
section
/-! ===== the methods that only look ===== -/
/-- what was stored, newest first -/
def gb_H : List (Nat × Nat × Nat) → (Nat → Int64) → (Nat → Int64) → (Nat → Int32) → Prop
  | [], _, _, _ => True
  | e :: l, a1, a2, a3 => gb_u (a1 l.length) = e.1 ∧ gb_u (a2 l.length) = e.2.1 ∧ a3 l.length = nI e.2.2 ∧ gb_H l a1 a2 a3
/-- a state and its picture -/
def gb_K (B W bt wt : Nat) (H : List (Nat × Nat × Nat)) (u : St2) : Prop := match u with
  | (f0_all, f0_notFirst, f0_notLast, f0_black, f0_white, f0_count, f0_blackTook, f0_whiteTook, f0_trialBlack, f0_trialWhite, a1, a2, a3) => gb_u f0_all = gb_A ∧ gb_u f0_notFirst = gb_NF ∧ gb_u f0_notLast = gb_NL ∧ gb_u f0_black = B ∧ gb_u f0_white = W ∧ f0_count = nI H.length ∧ f0_blackTook = nI bt ∧ f0_whiteTook = nI wt ∧ gb_H H a1 a2 a3
/-- the same, with the board under trial -/
def gb_KT (B W bt wt : Nat) (H : List (Nat × Nat × Nat)) (TB TW : Nat) (u : St2) : Prop := match u with
  | (f0_all, f0_notFirst, f0_notLast, f0_black, f0_white, f0_count, f0_blackTook, f0_whiteTook, f0_trialBlack, f0_trialWhite, a1, a2, a3) => gb_u f0_all = gb_A ∧ gb_u f0_notFirst = gb_NF ∧ gb_u f0_notLast = gb_NL ∧ gb_u f0_black = B ∧ gb_u f0_white = W ∧ f0_count = nI H.length ∧ f0_blackTook = nI bt ∧ f0_whiteTook = nI wt ∧ gb_H H a1 a2 a3 ∧ gb_u f0_trialBlack = TB ∧ gb_u f0_trialWhite = TW
theorem gb_KT_K {B W bt wt : Nat} {H : List (Nat × Nat × Nat)} {TB TW : Nat} {u : St2} (h : gb_KT B W bt wt H TB TW u) : gb_K B W bt wt H u := by
  obtain ⟨f0_all, f0_notFirst, f0_notLast, f0_black, f0_white, f0_count, f0_blackTook, f0_whiteTook, f0_trialBlack, f0_trialWhite, a1, a2, a3⟩ := u
  obtain ⟨h1, h2, h3, h4, h5, h6, h7, h8, h9, _, _⟩ := h
  exact ⟨h1, h2, h3, h4, h5, h6, h7, h8, h9⟩
theorem gb_K_KT {B W bt wt : Nat} {H : List (Nat × Nat × Nat)} {u : St2} (h : gb_K B W bt wt H u) : ∃ TB TW, gb_KT B W bt wt H TB TW u := by
  obtain ⟨f0_all, f0_notFirst, f0_notLast, f0_black, f0_white, f0_count, f0_blackTook, f0_whiteTook, f0_trialBlack, f0_trialWhite, a1, a2, a3⟩ := u
  obtain ⟨h1, h2, h3, h4, h5, h6, h7, h8, h9⟩ := h
  exact ⟨_, _, h1, h2, h3, h4, h5, h6, h7, h8, h9, rfl, rfl⟩
theorem gb_nm1 {v : Nat} (h : v < 2 ^ 31) : ¬ nI v = -1 := fun z => nI_pos h (by rw [z]; decide)
theorem gb_nm2 {v : Nat} (h : v < 2 ^ 31) : ¬ nI v = -2 := fun z => nI_pos h (by rw [z]; decide)
theorem gb_1m {p : Nat} (h : p < 2) : 1 - nI p = nI (1 - p) := pk_sub (a := 1) (b := p) (by omega)
theorem gb_sh7 (x : Int64) : gb_u (x.toUInt64 >>> ((7 : Int32).toInt64.toUInt64 &&& Int64.toUInt64 63)).toInt64 = gb_u x >>> 7 := gb_shr x (k := 7) (by decide)
theorem gb_sh1 (x : Int64) : gb_u (x.toUInt64 >>> ((1 : Int32).toInt64.toUInt64 &&& Int64.toUInt64 63)).toInt64 = gb_u x >>> 1 := gb_shr x (k := 1) (by decide)
theorem gb_sl7 (x : Int64) : gb_u (x <<< ((7 : Int32).toInt64 &&& 63)) = (gb_u x <<< 7) % 18446744073709551616 := gb_shl x (k := 7) (by decide)
theorem gb_sl1 (x : Int64) : gb_u (x <<< ((1 : Int32).toInt64 &&& 63)) = (gb_u x <<< 1) % 18446744073709551616 := gb_shl x (k := 1) (by decide)
section
variable {f0_all f0_notFirst f0_notLast f0_black f0_white : Int64} {f0_count f0_blackTook f0_whiteTook : Int32} {f0_trialBlack f0_trialWhite : Int64} {a1 a2 : Nat → Int64} {a3 : Nat → Int32}
theorem gb_around {post : Int64 → Prop} {x : Int64} (hA : gb_u f0_all = gb_A) (hF : gb_u f0_notFirst = gb_NF) (hL : gb_u f0_notLast = gb_NL) (hp : ∀ y, gb_u y = gb_ar (gb_u x) → post y) : wpX_around post (f0_all, f0_notFirst, f0_notLast, f0_black, f0_white, f0_count, f0_blackTook, f0_whiteTook, f0_trialBlack, f0_trialWhite, a1, a2, a3) x :=
  nm_e (nm_e (nm_e (nm_e (hp _ (by rw [gb_and, gb_or, gb_or, gb_or, gb_sh7, gb_sl7, gb_sh1, gb_sl1, gb_and, gb_and, hA, hF, hL]; rfl)))))
theorem gb_grl {post : Int64 → Prop} {x3 : Int64} (hA : gb_u f0_all = gb_A) (hF : gb_u f0_notFirst = gb_NF) (hL : gb_u f0_notLast = gb_NL) : ∀ (n i : Nat) (x : Int64), i + n = 50 → (∀ y, gb_u y = gb_gl (gb_u x3) n (gb_u x) → post y) → wX_grown_11 post x3 f0_all f0_notFirst f0_notLast f0_black f0_white f0_count f0_blackTook f0_whiteTook f0_trialBlack f0_trialWhite a1 a2 a3 (n + 1) x 1 (nI i) := by
  intro n
  induction n with
  | zero =>
    intro i x hi hp
    exact pk_le 50 i (fun _ => hp x rfl) (fun z => absurd z (by omega))
  | succ n ih =>
    intro i x hi hp
    refine pk_le 50 i (fun z => absurd z (by omega)) (fun _ => br_f (by decide) ?_)
    refine gb_around hA hF hL (fun y hy => nm_e ?_)
    have e : gb_u (x ||| (y &&& x3)) = gb_nx (gb_u x3) (gb_u x) := by rw [gb_or, gb_and, hy]; rfl
    refine br_c (fun z => nm_r (nI_1 i) ?_) (fun z => nm_r (nI_1 i) (ih (i + 1) _ (by omega) (fun w hw => hp w ?_)))
    · have hq : post (x ||| (y &&& x3)) := hp _ (by
        rw [z] at e
        rw [z]
        show _ = bif Nat.beq (gb_nx (gb_u x3) (gb_u x)) (gb_u x) then gb_u x else gb_gl (gb_u x3) n (gb_nx (gb_u x3) (gb_u x))
        rw [← e, Nat.beq_refl]
        rfl)
      exact br_c (fun _ => hq) (fun _ => br_t rfl hq)
    · rw [hw, e]
      show _ = bif Nat.beq (gb_nx (gb_u x3) (gb_u x)) (gb_u x) then gb_u x else gb_gl (gb_u x3) n (gb_nx (gb_u x3) (gb_u x))
      have hb : Nat.beq (gb_nx (gb_u x3) (gb_u x)) (gb_u x) = false := by
        cases hc : Nat.beq (gb_nx (gb_u x3) (gb_u x)) (gb_u x) with
        | false => rfl
        | true => exact absurd (gb_inj (e.trans (gb_bq hc))) z
      rw [hb]
      rfl
theorem gb_grown {post : Int64 → Prop} {x w : Int64} (hA : gb_u f0_all = gb_A) (hF : gb_u f0_notFirst = gb_NF) (hL : gb_u f0_notLast = gb_NL) (hp : ∀ y, gb_u y = gb_gr (gb_u x) (gb_u w) → post y) : wpX_grown post (f0_all, f0_notFirst, f0_notLast, f0_black, f0_white, f0_count, f0_blackTook, f0_whiteTook, f0_trialBlack, f0_trialWhite, a1, a2, a3) x w :=
  nm_e ⟨51, gb_grl hA hF hL 50 0 _ rfl (fun y hy => hp y (by rw [hy, gb_and]; rfl))⟩
theorem gb_size {post : Int32 → Prop} {x : Int64} (hp : post (nI (gb_sz (gb_u x) 49))) : wpX_sizeOf post (f0_all, f0_notFirst, f0_notLast, f0_black, f0_white, f0_count, f0_blackTook, f0_whiteTook, f0_trialBlack, f0_trialWhite, a1, a2, a3) x :=
  pk_loop (fun n i (s : Int32) => wX_sizeOf_5 post x f0_all f0_notFirst f0_notLast f0_black f0_white f0_count f0_blackTook f0_whiteTook f0_trialBlack f0_trialWhite a1 a2 a3 n s (nI i)) (fun i s => s = nI (gb_sz (gb_u x) i)) 49 0 0 (by omega) rfl
    (fun n s h => pk_le 49 49 (fun _ => by
      have h' : s = nI (gb_sz (gb_u x) 49) := h
      rw [h']
      exact hp) (fun z => absurd z (by omega)))
    (fun n i s hi h hw => pk_le 49 i (fun z => absurd z (by omega)) (fun _ => ek_if (gb_tst x (by omega))
      (fun z => nm_e (nm_r (nI_1 i) (hw _ (by
        have h' : s = nI (gb_sz (gb_u x) i) := h
        rw [h', nI_1]
        show nI (gb_sz (gb_u x) i + 1) = nI (gb_sz (gb_u x) i + (gb_u x >>> i) % 2)
        rw [z]))))
      (fun z => nm_r (nI_1 i) (hw _ (by
        have h' : s = nI (gb_sz (gb_u x) i) := h
        rw [h']
        show nI (gb_sz (gb_u x) i) = nI (gb_sz (gb_u x) i + (gb_u x >>> i) % 2)
        rw [show (gb_u x >>> i) % 2 = 0 by omega]
        rfl)))))
theorem gb_point {post : Int32 → Prop} {q : Nat} (hq : q < 49) (hp : post 0) : wpX_badPoint post (f0_all, f0_notFirst, f0_notLast, f0_black, f0_white, f0_count, f0_blackTook, f0_whiteTook, f0_trialBlack, f0_trialWhite, a1, a2, a3) (nI q) :=
  pk_lt q 0 (fun z => absurd z (by omega)) (fun _ => pk_lt q 49 (fun _ => hp) (fun z => absurd z (by omega)))
theorem gb_player {post : Int32 → Prop} {p : Nat} (h : p < 2) (hp : post 0) : wpX_badPlayer post (f0_all, f0_notFirst, f0_notLast, f0_black, f0_white, f0_count, f0_blackTook, f0_whiteTook, f0_trialBlack, f0_trialWhite, a1, a2, a3) (nI p) :=
  pk_lt p 0 (fun z => absurd z (by omega)) (fun _ => pk_le p 1 (fun _ => hp) (fun z => absurd z (by omega)))
theorem gb_stones {post : Int64 → Prop} {p : Nat} (h : p < 2) (hp : ∀ y, gb_u y = gb_st p (gb_u f0_black) (gb_u f0_white) → post y) : wpX_stones post (f0_all, f0_notFirst, f0_notLast, f0_black, f0_white, f0_count, f0_blackTook, f0_whiteTook, f0_trialBlack, f0_trialWhite, a1, a2, a3) (nI p) :=
  pk_eq p 0 (fun z => hp _ (by subst z; rfl)) (fun z => hp _ (by
    have e : p = 1 := by omega
    subst e
    rfl))
theorem gb_low {post : Int64 → Prop} {x : Int64} (hp : post (x &&& (-x))) : wpX_lowest post (f0_all, f0_notFirst, f0_notLast, f0_black, f0_white, f0_count, f0_blackTook, f0_whiteTook, f0_trialBlack, f0_trialWhite, a1, a2, a3) x := hp
theorem gb_empty {post : Int64 → Prop} (hA : gb_u f0_all = gb_A) (hp : ∀ y, gb_u y = gb_em (gb_u f0_black) (gb_u f0_white) → post y) : wpX_empty post (f0_all, f0_notFirst, f0_notLast, f0_black, f0_white, f0_count, f0_blackTook, f0_whiteTook, f0_trialBlack, f0_trialWhite, a1, a2, a3) :=
  hp _ (by rw [gb_and, gb_not, gb_or, hA]; rfl)
theorem gb_dead {post : Int64 → Prop} {x o : Int64} (hA : gb_u f0_all = gb_A) (hF : gb_u f0_notFirst = gb_NF) (hL : gb_u f0_notLast = gb_NL) (hp : ∀ y, gb_u y = gb_dd (gb_u x) (gb_u o) → post y) : wpX_dead post (f0_all, f0_notFirst, f0_notLast, f0_black, f0_white, f0_count, f0_blackTook, f0_whiteTook, f0_trialBlack, f0_trialWhite, a1, a2, a3) x o := by
  unfold wpX_dead
  exact gb_around hA hF hL (fun y hy => nm_e (gb_grown hA hF hL (fun z hz => hp _ (by rw [gb_and, gb_not, hz, gb_and, hy]; rfl))))
theorem gb_atp {post : Int32 → Prop} {q v : Nat} (hq : q < 49) (hv : gb_atv (gb_u f0_black) (gb_u f0_white) q = v) (hp : post (nI v)) : wpX_at post (f0_all, f0_notFirst, f0_notLast, f0_black, f0_white, f0_count, f0_blackTook, f0_whiteTook, f0_trialBlack, f0_trialWhite, a1, a2, a3) (nI q) := by
  subst hv
  unfold gb_atv at hp
  unfold wpX_at
  refine gb_point hq (br_t rfl (ek_if (gb_tst f0_black (k := q) (by omega)) (fun z => ?_) (fun z => ek_if (gb_tst f0_white (k := q) (by omega)) (fun z2 => ?_) (fun z2 => ?_))))
  · rw [z] at hp
    exact hp
  · rw [show (gb_u f0_black >>> q) % 2 = 0 by omega, z2] at hp
    exact hp
  · rw [show (gb_u f0_black >>> q) % 2 = 0 by omega, show (gb_u f0_white >>> q) % 2 = 0 by omega] at hp
    exact hp
theorem gb_group {post : Int64 → Prop} {q : Nat} (hA : gb_u f0_all = gb_A) (hF : gb_u f0_notFirst = gb_NF) (hL : gb_u f0_notLast = gb_NL) (hq : q < 49) (hp : ∀ y, gb_u y = gb_ga (gb_u f0_black) (gb_u f0_white) q → post y) : wpX_groupAt post (f0_all, f0_notFirst, f0_notLast, f0_black, f0_white, f0_count, f0_blackTook, f0_whiteTook, f0_trialBlack, f0_trialWhite, a1, a2, a3) (nI q) := by
  have e : gb_u ((1 : Int64) <<< ((nI q).toInt64 &&& 63)) = 1 <<< q := gb_bit (by omega)
  have e2 : gb_u (f0_black &&& ((1 : Int64) <<< ((nI q).toInt64 &&& 63))) = gb_u f0_black &&& 1 <<< q := by rw [gb_and, e]
  have e3 : (f0_black &&& ((1 : Int64) <<< ((nI q).toInt64 &&& 63))) = 0 ↔ gb_u f0_black &&& 1 <<< q = 0 := by rw [gb_eq0, e2]
  refine nm_e (ek_if e3 (fun z => gb_grown hA hF hL (fun y hy => hp y ?_)) (fun z => gb_grown hA hF hL (fun y hy => hp y ?_)))
  · rw [hy, e]
    unfold gb_ga
    rw [z]
    rfl
  · rw [hy, e]
    unfold gb_ga
    cases hc : Nat.beq (gb_u f0_black &&& 1 <<< q) 0 with
    | false => rfl
    | true => exact absurd (gb_bq hc) z
theorem gb_libs {post : Int32 → Prop} {q v : Nat} (hA : gb_u f0_all = gb_A) (hF : gb_u f0_notFirst = gb_NF) (hL : gb_u f0_notLast = gb_NL) (hq : q < 49) (hv : gb_atv (gb_u f0_black) (gb_u f0_white) q = v) (hv2 : v < 2) (hp : post (nI (gb_lb (gb_u f0_black) (gb_u f0_white) q))) : wpX_liberties post (f0_all, f0_notFirst, f0_notLast, f0_black, f0_white, f0_count, f0_blackTook, f0_whiteTook, f0_trialBlack, f0_trialWhite, a1, a2, a3) (nI q) := by
  unfold wpX_liberties
  exact gb_atp hq hv (br_f (gb_nm1 (v := v) (by omega)) (pk_eq v 2 (fun z => absurd z (by omega)) (fun _ =>
    gb_group hA hF hL hq (fun y hy => gb_empty hA (fun w hw => gb_around hA hF hL (fun r hr => nm_e (gb_size (by
      rw [gb_and, hr, hy, hw]
      exact hp))))))))
theorem gb_gsize {post : Int32 → Prop} {q v : Nat} (hA : gb_u f0_all = gb_A) (hF : gb_u f0_notFirst = gb_NF) (hL : gb_u f0_notLast = gb_NL) (hq : q < 49) (hv : gb_atv (gb_u f0_black) (gb_u f0_white) q = v) (hv2 : v < 2) (hp : post (nI (gb_sz (gb_ga (gb_u f0_black) (gb_u f0_white) q) 49))) : wpX_groupSize post (f0_all, f0_notFirst, f0_notLast, f0_black, f0_white, f0_count, f0_blackTook, f0_whiteTook, f0_trialBlack, f0_trialWhite, a1, a2, a3) (nI q) := by
  unfold wpX_groupSize
  exact gb_atp hq hv (br_f (gb_nm1 (v := v) (by omega)) (pk_eq v 2 (fun z => absurd z (by omega)) (fun _ =>
    gb_group hA hF hL hq (fun y hy => gb_size (by
      rw [hy]
      exact hp)))))
theorem gb_ial {post : Int32 → Prop} {x2 : Int64} (hA : gb_u f0_all = gb_A) (hF : gb_u f0_notFirst = gb_NF) (hL : gb_u f0_notLast = gb_NL) : ∀ (n i c : Nat) (x : Int64), i + n = 49 → post (nI (gb_al (gb_u x2) n (gb_u x) c)) → wX_inAtari_28 post x2 f0_all f0_notFirst f0_notLast f0_black f0_white f0_count f0_blackTook f0_whiteTook f0_trialBlack f0_trialWhite a1 a2 a3 (n + 1) x (nI c) (nI i) := by
  intro n
  induction n with
  | zero =>
    intro i c x hi hp
    exact pk_le 49 i (fun _ => hp) (fun z => absurd z (by omega))
  | succ n ih =>
    intro i c x hi hp
    have hp' : post (nI (bif Nat.beq (gb_u x) 0 then c else gb_al (gb_u x2) n (gb_u x &&& (gb_lo (gb_u x) ^^^ 18446744073709551615)) (bif gb_on (gb_ar (gb_lo (gb_u x)) &&& gb_u x2) then c + gb_sz (gb_lo (gb_u x)) 49 else c))) := hp
    refine pk_le 49 i (fun z => absurd z (by omega)) (fun _ => ek_if gb_eq0 (fun z => ?_) (fun z => ?_))
    · rw [z] at hp'
      exact hp'
    · have hb : Nat.beq (gb_u x) 0 = false := by
        cases hc : Nat.beq (gb_u x) 0 with
        | false => rfl
        | true => exact absurd (gb_bq hc) z
      rw [hb] at hp'
      refine gb_low (gb_grown hA hF hL (fun g hg => gb_around hA hF hL (fun r hr => nm_e ?_)))
      have eg : gb_u g = gb_lo (gb_u x) := by rw [hg, gb_and, gb_neg]; rfl
      have ef : gb_u (r &&& x2) = gb_ar (gb_lo (gb_u x)) &&& gb_u x2 := by rw [gb_and, hr, eg]
      have el : gb_u (x &&& (g ^^^ (-1))) = gb_u x &&& (gb_lo (gb_u x) ^^^ 18446744073709551615) := by rw [gb_and, gb_not, eg]
      rw [← ef] at hp'
      have key : ∀ k, (bif gb_on (gb_u (r &&& x2)) then c + gb_sz (gb_lo (gb_u x)) 49 else c) = k → wX_inAtari_104 post (wX_inAtari_28 post x2 f0_all f0_notFirst f0_notLast f0_black f0_white f0_count f0_blackTook f0_whiteTook f0_trialBlack f0_trialWhite a1 a2 a3 (n + 1)) x2 x (nI k) (nI i) g f0_all f0_notFirst f0_notLast f0_black f0_white f0_count f0_blackTook f0_whiteTook f0_trialBlack f0_trialWhite a1 a2 a3 := by
        intro k hk
        rw [hk, ← el] at hp'
        exact nm_e (nm_r (nI_1 i) (ih (i + 1) k _ (by omega) hp'))
      refine ek_if gb_eq0 (fun z1 => key c ?_) (fun z1 => ?_)
      · unfold gb_on
        rw [z1]
        rfl
      · have hb1 : Nat.beq (gb_u (r &&& x2)) 0 = false := by
          cases hc : Nat.beq (gb_u (r &&& x2)) 0 with
          | false => rfl
          | true => exact absurd (gb_bq hc) z1
        have ed : gb_u ((r &&& x2) &&& ((r &&& x2) - 1)) = gb_u (r &&& x2) &&& (18446744073709551615 + gb_u (r &&& x2)) % 18446744073709551616 := by rw [gb_and (r &&& x2), gb_dec]
        have ed2 : ((r &&& x2) &&& ((r &&& x2) - 1)) = 0 ↔ gb_u (r &&& x2) &&& (18446744073709551615 + gb_u (r &&& x2)) % 18446744073709551616 = 0 := by rw [gb_eq0, ed]
        refine ek_if ed2 (fun z2 => gb_size (nm_r (show _ = nI (c + gb_sz (gb_u g) 49) from nI_add _ _) (key _ ?_))) (fun z2 => key c ?_)
        · unfold gb_on
          rw [hb1, z2, eg]
          rfl
        · unfold gb_on
          have hb2 : Nat.beq (gb_u (r &&& x2) &&& (18446744073709551615 + gb_u (r &&& x2)) % 18446744073709551616) 0 = false := by
            cases hc : Nat.beq (gb_u (r &&& x2) &&& (18446744073709551615 + gb_u (r &&& x2)) % 18446744073709551616) 0 with
            | false => rfl
            | true => exact absurd (gb_bq hc) z2
          rw [hb1, hb2]
          rfl
theorem gb_atari {post : Int32 → Prop} {p : Nat} (hA : gb_u f0_all = gb_A) (hF : gb_u f0_notFirst = gb_NF) (hL : gb_u f0_notLast = gb_NL) (h : p < 2) (hp : post (nI (gb_ia p (gb_u f0_black) (gb_u f0_white)))) : wpX_inAtari post (f0_all, f0_notFirst, f0_notLast, f0_black, f0_white, f0_count, f0_blackTook, f0_whiteTook, f0_trialBlack, f0_trialWhite, a1, a2, a3) (nI p) := by
  unfold wpX_inAtari
  exact gb_player h (br_t rfl (gb_empty hA (fun e he => gb_stones h (fun x hx => ⟨50, gb_ial hA hF hL 49 0 0 x rfl (by
    rw [he, hx]
    exact hp)⟩))))
end
end
section
/-! ===== what was stored ===== -/
theorem gb_H_up : ∀ (l : List (Nat × Nat × Nat)) {a1 a2 : Nat → Int64} {a3 : Nat → Int32} {n : Nat} {x y : Int64} {z : Int32}, l.length ≤ n → gb_H l a1 a2 a3 → gb_H l (vp_updL a1 n x) (vp_updL a2 n y) (upd a3 n z) := by
  intro l
  induction l with
  | nil => intro a1 a2 a3 n x y z _ _; exact trivial
  | cons e l ih =>
    intro a1 a2 a3 n x y z hn h
    obtain ⟨h1, h2, h3, h4⟩ := h
    have hn' : l.length + 1 ≤ n := hn
    have hne : l.length ≠ n := by omega
    exact ⟨(by rw [pk_uLn hne]; exact h1), (by rw [pk_uLn hne]; exact h2), (by rw [pk_un hne]; exact h3), ih (by omega) h4⟩
theorem gb_store {post : St2 → Prop} {u : St2} {B W bt wt TB TW : Nat} {H : List (Nat × Nat × Nat)} (K : gb_KT B W bt wt H TB TW u) (hH : H.length < 40) (hp : ∀ u', gb_KT B W bt wt ((B, W, bt * 1000 + wt) :: H) TB TW u' → post u') : wpX_store post u := by
  obtain ⟨f0_all, f0_notFirst, f0_notLast, f0_black, f0_white, f0_count, f0_blackTook, f0_whiteTook, f0_trialBlack, f0_trialWhite, a1, a2, a3⟩ := u
  obtain ⟨h1, h2, h3, h4, h5, h6, h7, h8, h9, h10, h11⟩ := K
  subst h6 h7 h8
  refine ⟨pk_in _ 40 hH, nm_e ⟨pk_in _ 40 hH, nm_e ⟨pk_in _ 40 hH, nm_e (nm_e (hp _ ?_))⟩⟩⟩
  rw [nI_clamp (show H.length < 2 ^ 31 by omega)]
  refine ⟨h1, h2, h3, h4, h5, nI_1 _, rfl, rfl, ⟨?_, ?_, ?_, gb_H_up H (Nat.le_refl _) h9⟩, h10, h11⟩
  · rw [pk_uLs]; exact h4
  · rw [pk_uLs]; exact h5
  · rw [pk_us]
    show nI bt * nI 1000 + nI wt = _
    rw [pk_mul, nI_add]
theorem gb_pass {post : Int32 → St2 → Prop} {u : St2} {B W bt wt : Nat} {H : List (Nat × Nat × Nat)} (K : gb_K B W bt wt H u) (hH : H.length < 40) (hp : ∀ u', gb_K B W bt wt ((B, W, bt * 1000 + wt) :: H) u' → post (nI (H.length + 1)) u') : wpX_pass post u := by
  obtain ⟨TB, TW, K⟩ := gb_K_KT K
  obtain ⟨f0_all, f0_notFirst, f0_notLast, f0_black, f0_white, f0_count, f0_blackTook, f0_whiteTook, f0_trialBlack, f0_trialWhite, a1, a2, a3⟩ := u
  have hc := K.2.2.2.2.2.1
  refine pk_eq H.length 40 (fun z => absurd z (by omega)) (fun _ => gb_store K hH (fun u' K' => ?_)) hc
  obtain ⟨f0_all, f0_notFirst, f0_notLast, f0_black, f0_white, f0_count, f0_blackTook, f0_whiteTook, f0_trialBlack, f0_trialWhite, a1, a2, a3⟩ := u'
  have K2 := gb_KT_K K'
  obtain ⟨_, _, _, _, _, h6, _, _, _⟩ := K2
  subst h6
  exact hp _ (gb_KT_K K')
theorem gb_undo {post : Int32 → St2 → Prop} {u : St2} {B W bt wt b w t : Nat} {H : List (Nat × Nat × Nat)} (K : gb_K B W bt wt ((b, w, t) :: H) u) (hH : H.length < 40) (ht : t < 2 ^ 31) (hp : ∀ u', gb_K b w (t / 1000) (t % 1000) H u' → post (nI H.length) u') : wpX_undo post u := by
  obtain ⟨f0_all, f0_notFirst, f0_notLast, f0_black, f0_white, f0_count, f0_blackTook, f0_whiteTook, f0_trialBlack, f0_trialWhite, a1, a2, a3⟩ := u
  obtain ⟨h1, h2, h3, h4, h5, h6, h7, h8, e1, e2, e3, h9⟩ := K
  refine pk_eq (H.length + 1) 0 (fun z => absurd z (by omega)) (fun _ => nm_r (e' := nI H.length) ?_ ⟨pk_in _ 40 hH, nm_e ⟨pk_in _ 40 hH, nm_e ⟨pk_in _ 40 hH, (by decide), nm_e ⟨pk_in _ 40 hH, (by decide), nm_e (hp _ ?_)⟩⟩⟩⟩) h6
  · rw [h6]
    exact nI_pred _
  · rw [nI_clamp (show H.length < 2 ^ 31 by omega)]
    have e3' : a3 H.length = nI t := e3
    rw [e3']
    exact ⟨h1, h2, h3, e1, e2, rfl, pk_div (d := 1000) ht (by decide) (by decide), pk_rem (d := 1000) ht (by decide) (by decide), h9⟩
theorem gb_undo0 {post : Int32 → St2 → Prop} {u : St2} {B W bt wt : Nat} (K : gb_K B W bt wt [] u) (hp : post (-2) u) : wpX_undo post u := by
  obtain ⟨f0_all, f0_notFirst, f0_notLast, f0_black, f0_white, f0_count, f0_blackTook, f0_whiteTook, f0_trialBlack, f0_trialWhite, a1, a2, a3⟩ := u
  exact pk_eq 0 0 (fun _ => hp) (fun z => absurd rfl z) K.2.2.2.2.2.1
theorem gb_done {post : Int32 → Prop} {u : St2} {B W bt wt : Nat} {H : List (Nat × Nat × Nat)} (K : gb_K B W bt wt H u) (hp : post (nI H.length)) : wpX_done post u := by
  obtain ⟨f0_all, f0_notFirst, f0_notLast, f0_black, f0_white, f0_count, f0_blackTook, f0_whiteTook, f0_trialBlack, f0_trialWhite, a1, a2, a3⟩ := u
  have h := K.2.2.2.2.2.1
  subst h
  exact hp
theorem gb_capt {post : Int32 → Prop} {u : St2} {B W bt wt p : Nat} {x : Int32} {H : List (Nat × Nat × Nat)} (K : gb_K B W bt wt H u) (h : p < 2) (hx : x = nI p) (hp : post (nI (gb_st p bt wt))) : wpX_captured post u x := by
  obtain ⟨f0_all, f0_notFirst, f0_notLast, f0_black, f0_white, f0_count, f0_blackTook, f0_whiteTook, f0_trialBlack, f0_trialWhite, a1, a2, a3⟩ := u
  obtain ⟨h1, h2, h3, h4, h5, h6, h7, h8, h9⟩ := K
  subst h7 h8 hx
  unfold wpX_captured
  refine gb_player h (br_t rfl (pk_eq p 0 (fun z => ?_) (fun z => ?_)))
  · subst z; exact hp
  · have e : p = 1 := by omega
    subst e
    exact hp
theorem gb_kat {post : Int32 → Prop} {u : St2} {B W bt wt q v : Nat} {y : Int32} {H : List (Nat × Nat × Nat)} (K : gb_K B W bt wt H u) (hq : q < 49) (hy : y = nI q) (hv : gb_atv B W q = v) (hp : post (nI v)) : wpX_at post u y := by
  obtain ⟨f0_all, f0_notFirst, f0_notLast, f0_black, f0_white, f0_count, f0_blackTook, f0_whiteTook, f0_trialBlack, f0_trialWhite, a1, a2, a3⟩ := u
  obtain ⟨h1, h2, h3, h4, h5, h6, h7, h8, h9⟩ := K
  subst h4 h5 hy
  exact gb_atp hq hv hp
theorem gb_klib {post : Int32 → Prop} {u : St2} {B W bt wt q v c : Nat} {y : Int32} {H : List (Nat × Nat × Nat)} (K : gb_K B W bt wt H u) (hq : q < 49) (hy : y = nI q) (hv : gb_atv B W q = v) (hv2 : v < 2) (hc : gb_lb B W q = c) (hp : post (nI c)) : wpX_liberties post u y := by
  obtain ⟨f0_all, f0_notFirst, f0_notLast, f0_black, f0_white, f0_count, f0_blackTook, f0_whiteTook, f0_trialBlack, f0_trialWhite, a1, a2, a3⟩ := u
  obtain ⟨h1, h2, h3, h4, h5, h6, h7, h8, h9⟩ := K
  subst h4 h5 hy hc
  exact gb_libs h1 h2 h3 hq hv hv2 hp
theorem gb_kgs {post : Int32 → Prop} {u : St2} {B W bt wt q v c : Nat} {y : Int32} {H : List (Nat × Nat × Nat)} (K : gb_K B W bt wt H u) (hq : q < 49) (hy : y = nI q) (hv : gb_atv B W q = v) (hv2 : v < 2) (hc : gb_sz (gb_ga B W q) 49 = c) (hp : post (nI c)) : wpX_groupSize post u y := by
  obtain ⟨f0_all, f0_notFirst, f0_notLast, f0_black, f0_white, f0_count, f0_blackTook, f0_whiteTook, f0_trialBlack, f0_trialWhite, a1, a2, a3⟩ := u
  obtain ⟨h1, h2, h3, h4, h5, h6, h7, h8, h9⟩ := K
  subst h4 h5 hy hc
  exact gb_gsize h1 h2 h3 hq hv hv2 hp
theorem gb_kia {post : Int32 → Prop} {u : St2} {B W bt wt p c : Nat} {x : Int32} {H : List (Nat × Nat × Nat)} (K : gb_K B W bt wt H u) (h : p < 2) (hx : x = nI p) (hc : gb_ia p B W = c) (hp : post (nI c)) : wpX_inAtari post u x := by
  obtain ⟨f0_all, f0_notFirst, f0_notLast, f0_black, f0_white, f0_count, f0_blackTook, f0_whiteTook, f0_trialBlack, f0_trialWhite, a1, a2, a3⟩ := u
  obtain ⟨h1, h2, h3, h4, h5, h6, h7, h8, h9⟩ := K
  subst h4 h5 hx hc
  exact gb_atari h1 h2 h3 h hp
/-! ===== attempt ===== -/
section
variable {f0_all f0_notFirst f0_notLast f0_black f0_white : Int64} {f0_count f0_blackTook f0_whiteTook : Int32} {f0_trialBlack f0_trialWhite : Int64} {a1 a2 : Nat → Int64} {a3 : Nat → Int32}
theorem gb_156 {post : Int32 → St2 → Prop} {x11 z0 : Int64} {H : List (Nat × Nat × Nat)} (hc : f0_count = nI H.length) (hH : H.length ≤ 40) (h9 : gb_H H a1 a2 a3)
    (h6 : gb_ko H (gb_u f0_trialBlack) (gb_u z0) = true → post (-6) (f0_all, f0_notFirst, f0_notLast, f0_black, f0_white, f0_count, f0_blackTook, f0_whiteTook, f0_trialBlack, z0, a1, a2, a3))
    (h0 : gb_ko H (gb_u f0_trialBlack) (gb_u z0) = false → post (nI (gb_sz (gb_u x11) 49)) (f0_all, f0_notFirst, f0_notLast, f0_black, f0_white, f0_count, f0_blackTook, f0_whiteTook, f0_trialBlack, z0, a1, a2, a3)) :
    wX_attempt_156 post x11 z0 f0_all f0_notFirst f0_notLast f0_black f0_white f0_count f0_blackTook f0_whiteTook f0_trialBlack f0_trialWhite a1 a2 a3 := by
  cases H with
  | nil => exact pk_le 0 0 (fun _ => gb_size (h0 rfl)) (fun z => absurd z (by omega)) hc
  | cons e l =>
    obtain ⟨e1, e2, e3, h9⟩ := h9
    have hl : l.length + 1 ≤ 40 := hH
    have ek : f0_count - 1 = nI l.length := by rw [hc]; exact nI_pred _
    have ec : (f0_count - 1).toNatClampNeg = l.length := by rw [ek]; exact nI_clamp (by omega)
    have kd : gb_ko (e :: l) (gb_u f0_trialBlack) (gb_u z0) = (Nat.beq (gb_u f0_trialBlack) e.1 && Nat.beq (gb_u z0) e.2.1) := rfl
    rw [kd, ← e1, ← e2] at h6 h0
    have nb : ∀ {x y : Int64}, ¬ x = y → Nat.beq (gb_u x) (gb_u y) = false := by
      intro x y z
      cases hc : Nat.beq (gb_u x) (gb_u y) with
      | false => rfl
      | true => exact absurd (gb_inj (gb_bq hc)) z
    refine pk_le (l.length + 1) 0 (fun z => absurd z (by omega)) (fun _ => ⟨pk_in l.length 40 (by omega) ek, ?_⟩) hc
    rw [ec]
    refine br_c (fun z => ⟨pk_in l.length 40 (by omega) ek, br_c (fun z2 => h6 ?_) (fun z2 => gb_size (h0 ?_))⟩) (fun z => gb_size (h0 ?_))
    · rw [z, z2, Nat.beq_refl, Nat.beq_refl]; rfl
    · rw [nb z2, Bool.and_false]
    · rw [nb z, Bool.false_and]
end
theorem gb_att {post : Int32 → St2 → Prop} {u : St2} {B W bt wt p q : Nat} {x y : Int32} {H : List (Nat × Nat × Nat)} (K : gb_K B W bt wt H u) (h : p < 2) (hx : x = nI p) (hq : q < 49) (hy : y = nI q) (hf : (B ||| W) &&& 1 <<< q = 0) (hl : ¬ gb_lv p B W q = 0) (hH : H.length ≤ 40)
    (h6 : gb_ko H (gb_tB p B W q) (gb_tW p B W q) = true → ∀ u', gb_KT B W bt wt H (gb_tB p B W q) (gb_tW p B W q) u' → post (-6) u')
    (h0 : gb_ko H (gb_tB p B W q) (gb_tW p B W q) = false → ∀ u', gb_KT B W bt wt H (gb_tB p B W q) (gb_tW p B W q) u' → post (nI (gb_sz (gb_ca p B W q) 49)) u') : wpX_attempt post u x y := by
  obtain ⟨f0_all, f0_notFirst, f0_notLast, f0_black, f0_white, f0_count, f0_blackTook, f0_whiteTook, f0_trialBlack, f0_trialWhite, a1, a2, a3⟩ := u
  obtain ⟨k1, k2, k3, k4, k5, k6, k7, k8, k9⟩ := K
  subst k4 k5 hx hy
  unfold wpX_attempt
  refine gb_player h (br_t rfl (gb_point hq (br_t rfl (fun b hb => ?_))))
  have eb : gb_u b = 1 <<< q := by
    rw [hb]
    exact gb_bit (by omega)
  refine br_t (by rw [gb_eq0, gb_and, gb_or, eb]; exact hf) (gb_stones h (fun m0 hm0 m hm => ?_))
  have em : gb_u m = gb_mi p (gb_u f0_black) (gb_u f0_white) q := by rw [hm, gb_or, hm0, eb]; rfl
  rw [gb_1m h]
  refine gb_stones (p := 1 - p) (by omega) (fun t ht o ho => ?_)
  have eo : gb_u o = gb_op p (gb_u f0_black) (gb_u f0_white) q := by rw [ho, gb_and, gb_not, gb_or, em, ht, k1]; rfl
  refine gb_dead k1 k2 k3 (fun c hc t2 ht2 o2 ho2 => gb_grown k1 k2 k3 (fun g hg => gb_around k1 k2 k3 (fun r hr => ?_)))
  have ec : gb_u c = gb_ca p (gb_u f0_black) (gb_u f0_white) q := by rw [hc, ht, eo]; rfl
  have e2 : gb_u t2 = gb_t2 p (gb_u f0_black) (gb_u f0_white) q := by rw [ht2, gb_and, gb_not, ec, ht]; rfl
  refine br_f (fun z => hl ?_) ?_
  · rw [gb_eq0, gb_and, ho2, gb_or, hr, hg, ec, eo, em, eb] at z
    exact z
  · refine pk_eq p 0 (fun z => pk_eq p 0 (fun _ => ?_) (fun z2 => absurd z z2)) (fun z => pk_eq p 0 (fun z2 => absurd z2 z) (fun _ => ?_))
    · subst z
      have eB : gb_u m = gb_tB 0 (gb_u f0_black) (gb_u f0_white) q := em
      have eW : gb_u t2 = gb_tW 0 (gb_u f0_black) (gb_u f0_white) q := e2
      refine gb_156 k6 hH k9 (fun v => ?_) (fun v => ?_)
      · rw [eB, eW] at v
        exact h6 v _ ⟨k1, k2, k3, rfl, rfl, k6, k7, k8, k9, eB, eW⟩
      · rw [eB, eW] at v
        rw [ec]
        exact h0 v _ ⟨k1, k2, k3, rfl, rfl, k6, k7, k8, k9, eB, eW⟩
    · have e1 : p = 1 := by omega
      subst e1
      have eB : gb_u t2 = gb_tB 1 (gb_u f0_black) (gb_u f0_white) q := e2
      have eW : gb_u m = gb_tW 1 (gb_u f0_black) (gb_u f0_white) q := em
      refine gb_156 k6 hH k9 (fun v => ?_) (fun v => ?_)
      · rw [eB, eW] at v
        exact h6 v _ ⟨k1, k2, k3, rfl, rfl, k6, k7, k8, k9, eB, eW⟩
      · rw [eB, eW] at v
        rw [ec]
        exact h0 v _ ⟨k1, k2, k3, rfl, rfl, k6, k7, k8, k9, eB, eW⟩
/-- a trial that breaks the ko rule -/
theorem gb_triK {post : Int32 → St2 → Prop} {u : St2} {B W bt wt p q : Nat} {x y : Int32} {H : List (Nat × Nat × Nat)} (K : gb_K B W bt wt H u) (h : p < 2) (hx : x = nI p) (hq : q < 49) (hy : y = nI q) (hf : (B ||| W) &&& 1 <<< q = 0) (hl : ¬ gb_lv p B W q = 0) (hH : H.length ≤ 40) (hk : gb_ko H (gb_tB p B W q) (gb_tW p B W q) = true) (hp : ∀ u', gb_K B W bt wt H u' → post (-6) u') : wpX_trial post u x y := by
  obtain ⟨f0_all, f0_notFirst, f0_notLast, f0_black, f0_white, f0_count, f0_blackTook, f0_whiteTook, f0_trialBlack, f0_trialWhite, a1, a2, a3⟩ := u
  unfold wpX_trial
  refine gb_att K h hx hq hy hf hl hH (fun _ u' K' => ?_) (fun z => absurd (z.symm.trans hk) (by decide))
  obtain ⟨f0_all, f0_notFirst, f0_notLast, f0_black, f0_white, f0_count, f0_blackTook, f0_whiteTook, f0_trialBlack, f0_trialWhite, a1, a2, a3⟩ := u'
  exact hp _ (gb_KT_K K')
/-- a trial that may be played -/
theorem gb_tri0 {post : Int32 → St2 → Prop} {u : St2} {B W bt wt p q c : Nat} {x y : Int32} {H : List (Nat × Nat × Nat)} (K : gb_K B W bt wt H u) (h : p < 2) (hx : x = nI p) (hq : q < 49) (hy : y = nI q) (hf : (B ||| W) &&& 1 <<< q = 0) (hl : ¬ gb_lv p B W q = 0) (hH : H.length ≤ 40) (hk : gb_ko H (gb_tB p B W q) (gb_tW p B W q) = false) (hc : gb_sz (gb_ca p B W q) 49 = c) (hp : ∀ u', gb_K B W bt wt H u' → post (nI c) u') : wpX_trial post u x y := by
  obtain ⟨f0_all, f0_notFirst, f0_notLast, f0_black, f0_white, f0_count, f0_blackTook, f0_whiteTook, f0_trialBlack, f0_trialWhite, a1, a2, a3⟩ := u
  subst hc
  unfold wpX_trial
  refine gb_att K h hx hq hy hf hl hH (fun z => absurd (z.symm.trans hk) (by decide)) (fun _ u' K' => ?_)
  obtain ⟨f0_all, f0_notFirst, f0_notLast, f0_black, f0_white, f0_count, f0_blackTook, f0_whiteTook, f0_trialBlack, f0_trialWhite, a1, a2, a3⟩ := u'
  exact hp _ (gb_KT_K K')
/-- a move that breaks the ko rule -/
theorem gb_plaK {post : Int32 → St2 → Prop} {u : St2} {B W bt wt p q : Nat} {x y : Int32} {H : List (Nat × Nat × Nat)} (K : gb_K B W bt wt H u) (h : p < 2) (hx : x = nI p) (hq : q < 49) (hy : y = nI q) (hf : (B ||| W) &&& 1 <<< q = 0) (hl : ¬ gb_lv p B W q = 0) (hH : H.length < 40) (hk : gb_ko H (gb_tB p B W q) (gb_tW p B W q) = true) (hp : ∀ u', gb_K B W bt wt H u' → post (-6) u') : wpX_play post u x y := by
  obtain ⟨f0_all, f0_notFirst, f0_notLast, f0_black, f0_white, f0_count, f0_blackTook, f0_whiteTook, f0_trialBlack, f0_trialWhite, a1, a2, a3⟩ := u
  unfold wpX_play
  refine gb_att K h hx hq hy hf hl (Nat.le_of_lt hH) (fun _ u' K' => ?_) (fun z => absurd (z.symm.trans hk) (by decide))
  obtain ⟨f0_all, f0_notFirst, f0_notLast, f0_black, f0_white, f0_count, f0_blackTook, f0_whiteTook, f0_trialBlack, f0_trialWhite, a1, a2, a3⟩ := u'
  have K2 := gb_KT_K K'
  have hc := K2.2.2.2.2.2.1
  exact br_f (by decide) (br_f (by decide) (pk_eq H.length 40 (fun z => absurd z (by omega)) (fun _ => br_f (by decide) (hp _ K2)) hc))
/-- a move that is played, and takes c stones -/
theorem gb_pla0 {post : Int32 → St2 → Prop} {u : St2} {B W bt wt p q c : Nat} {x y : Int32} {H : List (Nat × Nat × Nat)} (K : gb_K B W bt wt H u) (h : p < 2) (hx : x = nI p) (hq : q < 49) (hy : y = nI q) (hf : (B ||| W) &&& 1 <<< q = 0) (hl : ¬ gb_lv p B W q = 0) (hH : H.length < 40) (hk : gb_ko H (gb_tB p B W q) (gb_tW p B W q) = false) (hc : gb_sz (gb_ca p B W q) 49 = c) (hc2 : c < 2 ^ 31)
    (hp : ∀ u', gb_K (gb_tB p B W q) (gb_tW p B W q) (bif Nat.beq p 0 then bt + c else bt) (bif Nat.beq p 0 then wt else wt + c) ((B, W, bt * 1000 + wt) :: H) u' → post (nI c) u') : wpX_play post u x y := by
  obtain ⟨f0_all, f0_notFirst, f0_notLast, f0_black, f0_white, f0_count, f0_blackTook, f0_whiteTook, f0_trialBlack, f0_trialWhite, a1, a2, a3⟩ := u
  subst hc
  unfold wpX_play
  refine gb_att K h hx hq hy hf hl (Nat.le_of_lt hH) (fun z => absurd (z.symm.trans hk) (by decide)) (fun _ u' K' => ?_)
  obtain ⟨f0_all, f0_notFirst, f0_notLast, f0_black, f0_white, f0_count, f0_blackTook, f0_whiteTook, f0_trialBlack, f0_trialWhite, a1, a2, a3⟩ := u'
  have hc := (gb_KT_K K').2.2.2.2.2.1
  refine br_f (gb_nm1 hc2) (br_f (gb_nm2 hc2) (pk_eq H.length 40 (fun z => absurd z (by omega)) (fun _ => br_t (nI_pos' hc2) (gb_store K' hH (fun u2 K2 => ?_))) hc))
  obtain ⟨f0_all, f0_notFirst, f0_notLast, f0_black, f0_white, f0_count, f0_blackTook, f0_whiteTook, f0_trialBlack, f0_trialWhite, a1, a2, a3⟩ := u2
  obtain ⟨k1, k2, k3, k4, k5, k6, k7, k8, k9, k10, k11⟩ := K2
  refine pk_eq p 0 (fun z => nm_e (hp _ ?_)) (fun z => nm_e (hp _ ?_)) hx
  · subst z
    exact ⟨k1, k2, k3, k10, k11, k6, (by rw [k7]; exact nI_add _ _), k8, k9⟩
  · have e1 : p = 1 := by omega
    subst e1
    exact ⟨k1, k2, k3, k10, k11, k6, k7, (by rw [k8]; exact nI_add _ _), k9⟩
/-! ===== set, and the constructor ===== -/
theorem gb_set {post : Int32 → St2 → Prop} {u : St2} {B W bt wt p q : Nat} {x y : Int32} {H : List (Nat × Nat × Nat)} (K : gb_K B W bt wt H u) (h : p < 2) (hx : x = nI p) (hq : q < 49) (hy : y = nI q) (hf : (B ||| W) &&& 1 <<< q = 0) (hp : ∀ u', gb_K (gb_sB p q B) (gb_sW p q W) 0 0 [] u' → post 0 u') : wpX_set post u x y := by
  obtain ⟨f0_all, f0_notFirst, f0_notLast, f0_black, f0_white, f0_count, f0_blackTook, f0_whiteTook, f0_trialBlack, f0_trialWhite, a1, a2, a3⟩ := u
  obtain ⟨k1, k2, k3, k4, k5, k6, k7, k8, k9⟩ := K
  subst k4 k5 hx hy
  have e : gb_u ((1 : Int64) <<< ((nI q).toInt64 &&& 63)) = 1 <<< q := gb_bit (by omega)
  refine pk_lt p 0 (fun z => absurd z (by omega)) (fun _ => pk_lt 2 p (fun z => absurd z (by omega)) (fun _ => gb_point hq (br_t rfl (nm_e (br_t ?_ ?_)))))
  · rw [gb_eq0, gb_and, gb_or, e]
    exact hf
  · refine pk_eq p 2 (fun z => absurd z (by omega)) (fun _ => br_f (by decide) (pk_eq p 0 (fun z => nm_e (hp _ ?_)) (fun z => pk_eq p 1 (fun z => nm_e (hp _ ?_)) (fun z2 => absurd z2 (by omega)))))
    · subst z
      exact ⟨k1, k2, k3, (by rw [gb_or, e]; rfl), rfl, rfl, rfl, rfl, trivial⟩
    · subst z
      exact ⟨k1, k2, k3, rfl, (by rw [gb_or, e]; rfl), rfl, rfl, rfl, trivial⟩
section
variable {post : St2 → Prop} {mc ms kc ks : Nat} {f0_all f0_notFirst f0_notLast f0_trialBlack f0_trialWhite : Int64} {a1 a2 : Nat → Int64} {a3 : Nat → Int32}
theorem gb_inl (hp : ∀ u', gb_K 0 0 0 0 [] u' → post u') : ∀ (n i : Nat) (x1 x3 x5 : Int64), i + n = 49 → gb_u x1 = gb_i1 i → gb_u x3 = gb_i3 i → gb_u x5 = gb_i5 i → wX_init_38 post mc ms kc ks f0_all f0_notFirst f0_notLast 0 0 0 0 0 f0_trialBlack f0_trialWhite a1 a2 a3 (n + 1) x1 x3 x5 (nI i) := by
  intro n
  induction n with
  | zero =>
    intro i x1 x3 x5 hi h1 h3 h5
    have ei : i = 49 := by omega
    subst ei
    refine pk_le 49 49 (fun _ => nm_e (nm_e (hp _ ?_))) (fun z => absurd z (by omega))
    exact ⟨(by rw [h1]; exact gb_ini.1), (by rw [gb_and, gb_not, h1, h3]; exact gb_ini.2.1), (by rw [gb_and, gb_not, h1, h5]; exact gb_ini.2.2), gb_0, gb_0, rfl, rfl, rfl, trivial⟩
  | succ n ih =>
    intro i x1 x3 x5 hi h1 h3 h5
    have e : gb_u ((1 : Int64) <<< ((nI i).toInt64 &&& 63)) = 1 <<< i := gb_bit (by omega)
    have er : nI i - nI i / 7 * 7 = nI (i % 7) := pk_rem (d := 7) (by omega) (by decide) (by decide)
    have E1 : gb_u (x1 ||| (1 : Int64) <<< ((nI i).toInt64 &&& 63)) = gb_i1 (i + 1) := by rw [gb_or, h1, e]; rfl
    have key : ∀ y3, gb_u y3 = gb_i3 (i + 1) → wX_init_67 post mc ms (wX_init_38 post mc ms kc ks f0_all f0_notFirst f0_notLast 0 0 0 0 0 f0_trialBlack f0_trialWhite a1 a2 a3 (n + 1)) (x1 ||| (1 : Int64) <<< ((nI i).toInt64 &&& 63)) y3 x5 (nI i) kc ks f0_all f0_notFirst f0_notLast 0 0 0 0 0 f0_trialBlack f0_trialWhite a1 a2 a3 := by
      intro y3 hy3
      refine ⟨(by decide), pk_eq (i % 7) 6 (fun z => nm_e (nm_r (nI_1 i) (ih (i + 1) _ _ _ (by omega) E1 hy3 ?_))) (fun z => nm_r (nI_1 i) (ih (i + 1) _ _ _ (by omega) E1 hy3 ?_)) er⟩
      · show _ = bif Nat.beq (i % 7) 6 then gb_i5 i ||| 1 <<< i else gb_i5 i
        rw [gb_or, h5, e, z]
        rfl
      · show _ = bif Nat.beq (i % 7) 6 then gb_i5 i ||| 1 <<< i else gb_i5 i
        have hb : Nat.beq (i % 7) 6 = false := by
          cases hc : Nat.beq (i % 7) 6 with
          | false => rfl
          | true => exact absurd (gb_bq hc) z
        rw [hb]
        exact h5
    refine pk_le 49 i (fun z => absurd z (by omega)) (fun _ => nm_e ⟨(by decide), pk_eq (i % 7) 0 (fun z => nm_e (key _ ?_)) (fun z => key _ ?_) er⟩)
    · show _ = bif Nat.beq (i % 7) 0 then gb_i3 i ||| 1 <<< i else gb_i3 i
      rw [gb_or, h3, e, z]
      rfl
    · show _ = bif Nat.beq (i % 7) 0 then gb_i3 i ||| 1 <<< i else gb_i3 i
      have hb : Nat.beq (i % 7) 0 = false := by
        cases hc : Nat.beq (i % 7) 0 with
        | false => rfl
        | true => exact absurd (gb_bq hc) z
      rw [hb]
      exact h3
theorem gb_init (hm : 3 ≤ mc) (hs : 120 ≤ ms) (hp : ∀ u', gb_K 0 0 0 0 [] u' → post u') : wpX_init post mc ms (0, 0, 0, 0, 0, 0, 0, 0, 0, 0) :=
  ⟨(by omega), (by omega), (by omega), (by omega), (by omega), (by omega), 50, gb_inl hp 49 0 0 0 0 rfl gb_0 gb_0 gb_0⟩
end
end
section
/-! ===== the law ===== -/
/-- the facts of one position, as the walk takes them -/
def gb_F (s e m B W B1 W1 : Nat) : Prop :=
  e < 49 ∧ m < 49 ∧ gb_atv B W e = 1 - s ∧ gb_lb B W e = 1 ∧ gb_ia (1 - s) B W = 1 ∧
  (B ||| W) &&& 1 <<< m = 0 ∧ (¬ gb_lv s B W m = 0) ∧ gb_sz (gb_ca s B W m) 49 = 1 ∧
  gb_tB s B W m = B1 ∧ gb_tW s B W m = W1 ∧
  (B1 ||| W1) &&& 1 <<< e = 0 ∧ (¬ gb_lv (1 - s) B1 W1 e = 0) ∧ gb_sz (gb_ca (1 - s) B1 W1 e) 49 = 1 ∧
  gb_tB (1 - s) B1 W1 e = B ∧ gb_tW (1 - s) B1 W1 e = W ∧ (Nat.beq B B1 && Nat.beq W W1) = false ∧
  gb_atv B W m = 2 ∧ gb_atv B1 W1 m = s ∧
  (¬ gb_lv (1 - s) B W m = 0) ∧ gb_sz (gb_ca (1 - s) B W m) 49 = 0 ∧ gb_sz (gb_ga B W e) 49 = 1
theorem gb_nt {b : Bool} (h : (!b) = true) : b = false := by cases b <;> first | rfl | exact absurd h (by decide)
theorem gb_c2F {s e m B W B1 W1 : Nat} (h : gb_c2 s e m B W B1 W1 = true) : gb_F s e m B W B1 W1 := by
  obtain ⟨h1, h⟩ := gb_bs h
  obtain ⟨h2, h⟩ := gb_bs h
  obtain ⟨h3, h⟩ := gb_bs h
  obtain ⟨h4, h⟩ := gb_bs h
  obtain ⟨h5, h⟩ := gb_bs h
  obtain ⟨h6, h⟩ := gb_bs h
  obtain ⟨h7, h⟩ := gb_bs h
  obtain ⟨h8, h⟩ := gb_bs h
  obtain ⟨h9, h⟩ := gb_bs h
  obtain ⟨h10, h⟩ := gb_bs h
  obtain ⟨h11, h⟩ := gb_bs h
  obtain ⟨h12, h⟩ := gb_bs h
  obtain ⟨h13, h⟩ := gb_bs h
  obtain ⟨h14, h⟩ := gb_bs h
  obtain ⟨h15, h⟩ := gb_bs h
  obtain ⟨h16, h⟩ := gb_bs h
  obtain ⟨h17, h⟩ := gb_bs h
  obtain ⟨h18, h⟩ := gb_bs h
  obtain ⟨h19, h⟩ := gb_bs h
  obtain ⟨h20, h21⟩ := gb_bs h
  exact ⟨gb_lt2 h1, gb_lt2 h2, gb_bq h3, gb_bq h4, gb_bq h5, gb_bq h6, gb_bn h7, gb_bq h8, gb_bq h9, gb_bq h10, gb_bq h11, gb_bn h12, gb_bq h13, gb_bq h14, gb_bq h15, gb_nt h16, gb_bq h17, gb_bq h18, gb_bn h19, gb_bq h20, gb_bq h21⟩
theorem gb_st0 (p : Nat) : gb_st p (0 / 1000) (0 % 1000) = 0 := by
  unfold gb_st
  cases Nat.beq p 0 <;> rfl
section
variable {post : Int32 → St0 → Prop} {mc ms kc ks : Nat}
theorem gb_l433 {s e m B W B1 W1 bt wt t1 : Nat} {x12 x13 : Int32} {f0_all f0_notFirst f0_notLast f0_black f0_white : Int64} {f0_count f0_blackTook f0_whiteTook : Int32} {f0_trialBlack f0_trialWhite : Int64} {a1 a2 : Nat → Int64} {a3 : Nat → Int32}
    (F : gb_F s e m B W B1 W1) (hs : s < 2) (e12 : x12 = nI e) (e13 : x13 = nI m) (ht : t1 < 2 ^ 31) (K : gb_K B W bt wt [(B1, W1, t1), (B1, W1, t1), (B, W, 0)] (f0_all, f0_notFirst, f0_notLast, f0_black, f0_white, f0_count, f0_blackTook, f0_whiteTook, f0_trialBlack, f0_trialWhite, a1, a2, a3)) (hp : post 1 ()) :
    wL_lawOf_433 post mc ms (nI s) x12 x13 1 kc ks f0_all f0_notFirst f0_notLast f0_black f0_white f0_count f0_blackTook f0_whiteTook f0_trialBlack f0_trialWhite a1 a2 a3 := by
  obtain ⟨he, hm, hate, hlib, hia, hfm, hlv, hca, htB, htW, hfe, hlv1, hca1, htB1, htW1, hne, hatm, hat1, hlv2, hca2, hgs⟩ := F
  have hs' : 1 - s < 2 := by omega
  refine gb_undo K (show 2 < 40 by decide) ht (fun u1 K1 => ?_)
  obtain ⟨_, _, _, _, _, _, _, _, _, _, _, _, _⟩ := u1
  refine gb_kat K1 hm e13 hat1 (gb_undo K1 (show 1 < 40 by decide) ht (fun u2 K2 => ?_))
  obtain ⟨_, _, _, _, _, _, _, _, _, _, _, _, _⟩ := u2
  refine gb_undo K2 (show 0 < 40 by decide) (by decide) (fun u3 K3 => ?_)
  obtain ⟨_, _, _, _, _, _, _, _, _, _, _, _, _⟩ := u3
  refine gb_undo0 K3 (br_f (by decide) (br_t rfl (br_t rfl (br_t rfl (br_t rfl (br_t rfl ?_))))))
  refine gb_capt K3 hs rfl (br_t (by rw [gb_st0]; rfl) ?_)
  refine gb_capt K3 hs' (gb_1m hs) (br_t (by rw [gb_st0]; rfl) ?_)
  refine gb_kat K3 hm e13 hatm (br_t rfl ?_)
  refine gb_kat K3 he e12 hate (br_t (gb_1m hs).symm ?_)
  refine gb_klib K3 he e12 hate hs' hlib (br_t rfl ?_)
  refine gb_tri0 K3 hs' (gb_1m hs) hm e13 hfm hlv2 (show 0 ≤ 40 by decide) rfl hca2 (fun u4 K4 => ?_)
  obtain ⟨_, _, _, _, _, _, _, _, _, _, _, _, _⟩ := u4
  exact br_t rfl (gb_kgs K4 he e12 hate hs' hgs (br_t rfl (gb_done K4 (br_t rfl hp))))
theorem gb_l92 {s q r d B W B1 W1 : Nat} {f0_all f0_notFirst f0_notLast f0_black f0_white : Int64} {f0_count f0_blackTook f0_whiteTook : Int32} {f0_trialBlack f0_trialWhite : Int64} {a1 a2 : Nat → Int64} {a3 : Nat → Int32}
    (hs : s < 2) (hq : gb_sq 0 0 (gb_ls q r d s) = true) (hB : gb_fB 0 (gb_ls q r d s) = B) (hW : gb_fW 0 (gb_ls q r d s) = W) (F : gb_F s (q + r + d) (q + 2 * r + d) B W B1 W1) (K : gb_K 0 0 0 0 [] (f0_all, f0_notFirst, f0_notLast, f0_black, f0_white, f0_count, f0_blackTook, f0_whiteTook, f0_trialBlack, f0_trialWhite, a1, a2, a3)) (hp : post 1 ()) :
    wL_lawOf_92 post mc ms (nI s) (nI r) (nI d) (nI q) kc ks f0_all f0_notFirst f0_notLast f0_black f0_white f0_count f0_blackTook f0_whiteTook f0_trialBlack f0_trialWhite a1 a2 a3 := by
  have hs' : 1 - s < 2 := by omega
  have m2r : (2 : Int32) * nI r = nI (2 * r) := pk_mul 2 r
  have m3r : (3 : Int32) * nI r = nI (3 * r) := pk_mul 3 r
  have m2d : (2 : Int32) * nI d = nI (2 * d) := pk_mul 2 d
  have p1 : nI q + nI r = nI (q + r) := nI_add q r
  have p2 : nI q + nI d = nI (q + d) := nI_add q d
  have p3 : nI q + nI r + 2 * nI d = nI (q + r + 2 * d) := by rw [m2d, nI_add, nI_add]
  have p4 : nI q + 2 * nI r = nI (q + 2 * r) := by rw [m2r, nI_add]
  have p5 : nI q + 3 * nI r + nI d = nI (q + 3 * r + d) := by rw [m3r, nI_add, nI_add]
  have p6 : nI q + 2 * nI r + 2 * nI d = nI (q + 2 * r + 2 * d) := by rw [m2r, m2d, nI_add, nI_add]
  have p7 : nI q + nI r + nI d = nI (q + r + d) := by rw [nI_add, nI_add]
  have p8 : nI q + 2 * nI r + nI d = nI (q + 2 * r + d) := by rw [m2r, nI_add, nI_add]
  obtain ⟨l1, g1, hq⟩ := gb_sqc hq
  obtain ⟨l2, g2, hq⟩ := gb_sqc hq
  obtain ⟨l3, g3, hq⟩ := gb_sqc hq
  obtain ⟨l4, g4, hq⟩ := gb_sqc hq
  obtain ⟨l5, g5, hq⟩ := gb_sqc hq
  obtain ⟨l6, g6, hq⟩ := gb_sqc hq
  obtain ⟨l7, g7, _⟩ := gb_sqc hq
  refine gb_set K hs rfl l1 p1 g1 (fun u1 K1 => ?_)
  obtain ⟨_, _, _, _, _, _, _, _, _, _, _, _, _⟩ := u1
  refine gb_set K1 hs rfl l2 p2 g2 (fun u2 K2 => ?_)
  obtain ⟨_, _, _, _, _, _, _, _, _, _, _, _, _⟩ := u2
  refine gb_set K2 hs rfl l3 p3 g3 (fun u3 K3 => ?_)
  obtain ⟨_, _, _, _, _, _, _, _, _, _, _, _, _⟩ := u3
  refine gb_set K3 hs' (gb_1m hs) l4 p4 g4 (fun u4 K4 => ?_)
  obtain ⟨_, _, _, _, _, _, _, _, _, _, _, _, _⟩ := u4
  refine gb_set K4 hs' (gb_1m hs) l5 p5 g5 (fun u5 K5 => ?_)
  obtain ⟨_, _, _, _, _, _, _, _, _, _, _, _, _⟩ := u5
  refine gb_set K5 hs' (gb_1m hs) l6 p6 g6 (fun u6 K6 => ?_)
  obtain ⟨_, _, _, _, _, _, _, _, _, _, _, _, _⟩ := u6
  refine gb_set K6 hs' (gb_1m hs) l7 p7 g7 (fun u7 K7 => ?_)
  obtain ⟨_, _, _, _, _, _, _, _, _, _, _, _, _⟩ := u7
  have K8 := K7
  change gb_K (gb_fB 0 (gb_ls q r d s)) (gb_fW 0 (gb_ls q r d s)) 0 0 [] _ at K8
  rw [hB, hW] at K8
  refine nm_r p7 (nm_r p8 ?_)
  have F0 := F
  obtain ⟨he, hm, hate, hlib, hia, hfm, hlv, hca, htB, htW, hfe, hlv1, hca1, htB1, htW1, hne, hatm, hat1, hlv2, hca2, hgs⟩ := F
  refine gb_klib K8 he rfl hate hs' hlib (gb_kia K8 hs' (gb_1m hs) hia ?_)
  refine gb_pla0 K8 hs rfl hm rfl hfm hlv (show 0 < 40 by decide) rfl hca (by decide) (fun u9 K9 => ?_)
  obtain ⟨_, _, _, _, _, _, _, _, _, _, _, _, _⟩ := u9
  rw [htB, htW] at K9
  refine gb_capt K9 hs rfl ?_
  refine gb_plaK K9 hs' (gb_1m hs) he rfl hfe hlv1 (show 1 < 40 by decide) (by
    show (Nat.beq _ _ && Nat.beq _ _) = true
    rw [htB1, htW1, Nat.beq_refl, Nat.beq_refl]
    rfl) (fun u10 K10 => ?_)
  obtain ⟨_, _, _, _, _, _, _, _, _, _, _, _, _⟩ := u10
  refine gb_triK K10 hs' (gb_1m hs) he rfl hfe hlv1 (show 1 ≤ 40 by decide) (by
    show (Nat.beq _ _ && Nat.beq _ _) = true
    rw [htB1, htW1, Nat.beq_refl, Nat.beq_refl]
    rfl) (fun u11 K11 => ?_)
  obtain ⟨_, _, _, _, _, _, _, _, _, _, _, _, _⟩ := u11
  refine gb_pass K11 (show 1 < 40 by decide) (fun u12 K12 => ?_)
  obtain ⟨_, _, _, _, _, _, _, _, _, _, _, _, _⟩ := u12
  refine gb_pla0 K12 hs' (gb_1m hs) he rfl hfe hlv1 (show 2 < 40 by decide) (by
    show (Nat.beq _ _ && Nat.beq _ _) = false
    rw [htB1, htW1]
    exact hne) hca1 (by decide) (fun u13 K13 => ?_)
  obtain ⟨_, _, _, _, _, _, _, _, _, _, _, _, _⟩ := u13
  rw [htB1, htW1] at K13
  refine gb_plaK K13 hs rfl hm rfl hfm hlv (show 3 < 40 by decide) (by
    show (Nat.beq _ _ && Nat.beq _ _) = true
    rw [htB, htW, Nat.beq_refl, Nat.beq_refl]
    rfl) (fun u14 K14 => ?_)
  obtain ⟨_, _, _, _, _, _, _, _, _, _, _, _, _⟩ := u14
  refine gb_done K14 (br_t rfl (br_t rfl (br_f (by decide) (br_t rfl (br_t ?_ (br_t rfl (br_t rfl (br_t rfl (br_t rfl (br_t rfl (br_t rfl ?_)))))))))))
  · rcases (show s = 0 ∨ s = 1 by omega) with z | z <;> subst z <;> rfl
  refine gb_capt K14 hs' (gb_1m hs) (br_t ?_ ?_)
  · rcases (show s = 0 ∨ s = 1 by omega) with z | z <;> subst z <;> rfl
  refine gb_kat K14 hm rfl hatm (br_t rfl ?_)
  refine gb_kat K14 he rfl hate (br_t (gb_1m hs).symm ?_)
  refine gb_l433 F0 hs rfl rfl ?_ K14 hp
  rcases (show s = 0 ∨ s = 1 by omega) with z | z <;> subst z <;> decide
theorem gb_l40 {a b s : Nat} {f0_all f0_notFirst f0_notLast f0_black f0_white : Int64} {f0_count f0_blackTook f0_whiteTook : Int32} {f0_trialBlack f0_trialWhite : Int64} {a1 a2 : Nat → Int64} {a3 : Nat → Int32}
    (ha : a < 4) (hb : b < 5) (hs : s < 2) (K : gb_K 0 0 0 0 [] (f0_all, f0_notFirst, f0_notLast, f0_black, f0_white, f0_count, f0_blackTook, f0_whiteTook, f0_trialBlack, f0_trialWhite, a1, a2, a3)) (hp : post 1 ()) :
    wL_lawOf_40 post mc ms (nI a) (nI b) (nI s) 1 kc ks f0_all f0_notFirst f0_notLast f0_black f0_white f0_count f0_blackTook f0_whiteTook f0_trialBlack f0_trialWhite a1 a2 a3 ∧ wL_lawOf_40 post mc ms (nI a) (nI b) (nI s) 0 kc ks f0_all f0_notFirst f0_notLast f0_black f0_white f0_count f0_blackTook f0_whiteTook f0_trialBlack f0_trialWhite a1 a2 a3 := by
  have eA : (7 : Int32) * nI b + nI a = nI (7 * b + a) := by
    rw [show (7 : Int32) * nI b = nI (7 * b) from pk_mul 7 b, nI_add]
  have eB : (7 : Int32) * nI a + nI b = nI (7 * a + b) := by
    rw [show (7 : Int32) * nI a = nI (7 * a) from pk_mul 7 a, nI_add]
  constructor
  · have h := gb_bs (gb_ckB a ha b hb s hs)
    rw [gb_fo_e, gb_fo_e, gb_fo_e, gb_fo_e] at h
    refine br_f (by decide) (br_f (by decide) (br_f (by decide) ?_))
    rw [eB]
    exact gb_l92 (r := 7) (d := 1) hs h.1 rfl rfl (gb_c2F h.2) K hp
  · have h := gb_bs (gb_ckA a ha b hb s hs)
    rw [gb_fo_e, gb_fo_e, gb_fo_e, gb_fo_e] at h
    refine br_t rfl (br_t rfl (br_t rfl ?_))
    rw [eA]
    exact gb_l92 (r := 1) (d := 7) hs h.1 rfl rfl (gb_c2F h.2) K hp
theorem gb_lawOf {x y z : Int32} (hm : 4 ≤ mc) (hs : 133 ≤ ms) (hp : post 1 ()) : wpL_lawOf post mc ms () x y z := by
  refine ⟨(by omega), (by omega), 3, 120, (by omega), (by omega), gb_init (by omega) (by omega) (fun u K => ?_)⟩
  obtain ⟨f0_all, f0_notFirst, f0_notLast, f0_black, f0_white, f0_count, f0_blackTook, f0_whiteTook, f0_trialBlack, f0_trialWhite, a1, a2, a3⟩ := u
  obtain ⟨a, ha, ea⟩ := pk_andE x (m := 3) 2 (by decide)
  obtain ⟨b, hb, eb⟩ := pk_andE (x >>> ((2 : Int32) &&& 31)) (m := 7) 3 (by decide)
  obtain ⟨s, hs, es⟩ := pk_andE y (m := 1) 1 (by decide)
  have er : nI b - nI b / 5 * 5 = nI (b % 5) := pk_rem (d := 5) (by omega) (by decide) (by decide)
  have L := gb_l40 (post := post) (mc := mc) (ms := ms) (kc := 1 + 3) (ks := 13 + 120) (b := b % 5) ha (Nat.mod_lt _ (by decide)) hs K hp
  refine nm_r ea ⟨(by decide), nm_r (e' := nI (b % 5)) ?_ (nm_r es (br_c (fun _ => L.1) (fun _ => L.2)))⟩
  rw [eb]
  exact er
end
theorem gb_cell {post : Int32 → Prop} {L : Nat} {xs : Nat → Int32} {k : Nat} (hL : L ≤ 3) (hk : k < 3) (hp : ∀ r, post r) : wpL_cellAt post L xs () (nI k) :=
  pk_le L k (fun _ => hp _) (fun z => ⟨pk_in k L z, hp _⟩)
theorem i_vc (xs : Nat → Int32) (L : Nat) (hL : L ≤ 3) : wpL_law (fun r => r = 1) L xs :=
  gb_cell (k := 0) hL (by decide) (fun _ => gb_cell (k := 1) hL (by decide) (fun _ => gb_cell (k := 2) hL (by decide) (fun _ => ⟨118, 1888, (by decide), (by decide), gb_lawOf (by decide) (by decide) rfl⟩)))
end
