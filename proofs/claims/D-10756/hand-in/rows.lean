section
/-! ===== the pure picture: a set of arguments is a number below 256, a family of sets one below 2^256 ===== -/
/-- f 0, f 1, .. f (n - 1), one behind another -/
noncomputable def ad_fd {α : Type} (f : Nat → α → α) (s : α) (n : Nat) : α := Nat.rec (motive := fun _ => α) s (fun i r => f i r) n
theorem ad_fd_s {α : Type} (f : Nat → α → α) (s : α) (n : Nat) : ad_fd f s (n + 1) = f n (ad_fd f s n) := rfl
theorem ad_fd_0 {α : Type} (f : Nat → α → α) (s : α) : ad_fd f s 0 = s := rfl
/-- all 256 sets -/
def ad_M : Nat := 0xffffffffffffffffffffffffffffffffffffffffffffffffffffffffffffffff
/-- the sets that have argument a -/
def ad_H (a : Nat) : Nat := match a with
  | 0 => 0xaaaaaaaaaaaaaaaaaaaaaaaaaaaaaaaaaaaaaaaaaaaaaaaaaaaaaaaaaaaaaaaa
  | 1 => 0xcccccccccccccccccccccccccccccccccccccccccccccccccccccccccccccccc
  | 2 => 0xf0f0f0f0f0f0f0f0f0f0f0f0f0f0f0f0f0f0f0f0f0f0f0f0f0f0f0f0f0f0f0f0
  | 3 => 0xff00ff00ff00ff00ff00ff00ff00ff00ff00ff00ff00ff00ff00ff00ff00ff00
  | 4 => 0xffff0000ffff0000ffff0000ffff0000ffff0000ffff0000ffff0000ffff0000
  | 5 => 0xffffffff00000000ffffffff00000000ffffffff00000000ffffffff00000000
  | 6 => 0xffffffffffffffff0000000000000000ffffffffffffffff0000000000000000
  | 7 => 0xffffffffffffffffffffffffffffffff00000000000000000000000000000000
  | _ => 0
/-- x without y -/
def ad_cut (x y : Nat) : Nat := x ^^^ (x &&& y)
noncomputable def ad_hit (s : Nat) : Nat → Nat := ad_fd (fun a r => if s.testBit a then r ||| ad_H a else r) 0
noncomputable def ad_att (A : Nat → Nat) (s : Nat) : Nat → Nat := ad_fd (fun a r => if s.testBit a then r ||| A a else r) 0
noncomputable def ad_dfd (p : Nat) (B : Nat → Nat) (t : Nat) : Nat → Nat := ad_fd (fun a r => if p.testBit a then (if ad_cut (B a) t = 0 then r ||| 2 ^ a else r) else r) 0
noncomputable def ad_lst (p : Nat) (A B : Nat → Nat) : Nat → Nat := ad_fd (fun _ h => ad_dfd p B (ad_att A h 8) 8) 0
noncomputable def ad_free (p : Nat) (A : Nat → Nat) : Nat → Nat := ad_fd (fun a r => ad_cut r (ad_H a &&& ad_hit (A a) 8)) (ad_M ^^^ ad_hit (ad_cut 255 p) 8)
noncomputable def ad_dg (B : Nat → Nat) (a : Nat) : Nat → Nat := ad_fd (fun x r => if (B a).testBit x then r &&& ad_hit (B x) 8 else r) ad_M
noncomputable def ad_adm (B : Nat → Nat) (X : Nat) : Nat → Nat := ad_fd (fun a r => r &&& ((ad_M ^^^ ad_H a) ||| ad_dg B a 8)) X
noncomputable def ad_com (p : Nat) (B : Nat → Nat) (X : Nat) : Nat → Nat := ad_fd (fun a r => if p.testBit a then r &&& (ad_H a ||| (ad_M ^^^ ad_dg B a 8)) else r) X
noncomputable def ad_sta (p : Nat) (B : Nat → Nat) (X : Nat) : Nat → Nat := ad_fd (fun a r => if p.testBit a then r &&& (ad_H a ||| ad_hit (B a) 8) else r) X
/-- what lies one argument below -/
def ad_bel (a X : Nat) : Nat := (X &&& ad_H a) >>> (2 ^ a)
noncomputable def ad_spr (X : Nat) : Nat → Nat := ad_fd (fun a r => r ||| ad_bel a r) X
noncomputable def ad_kp (O X : Nat) : Nat → Nat := ad_fd (fun a r => ad_cut r (ad_bel a O)) X
noncomputable def ad_keep (X : Nat) : Nat := ad_kp (ad_spr X 8) X 8
noncomputable def ad_rch (A : Nat → Nat) (s : Nat) : Nat := s ||| ad_att A s 8
noncomputable def ad_wi1 (A : Nat → Nat) (F : Nat) : Nat → Nat := ad_fd (fun s r => if F.testBit s then r ||| 2 ^ ad_rch A s else r) 0
noncomputable def ad_wi2 (A : Nat → Nat) (F R : Nat) : Nat → Nat := ad_fd (fun s r => if F.testBit s then (if R.testBit (ad_rch A s) then r ||| 2 ^ s else r) else r) 0
noncomputable def ad_wid (A : Nat → Nat) (F : Nat) : Nat := ad_wi2 A F (ad_keep (ad_wi1 A F 256)) 256
noncomputable def ad_cmn (p F : Nat) : Nat → Nat := ad_fd (fun a r => if F &&& (ad_H a ^^^ ad_M) = 0 then r else ad_cut r (2 ^ a)) p
noncomputable def ad_wit (F c : Nat) : Nat := ad_keep (ad_cut F (ad_hit (ad_cut 255 c) 8))
/-- the j-th of eight bytes -/
def ad_by (X j : Nat) : Nat := (X >>> (8 * j)) % 256
noncomputable def ad_wy0 (A : Nat → Nat) (g : Nat) : Nat → Nat := ad_fd (fun a X => if g.testBit a then X ||| (((A a &&& g) ||| 2 ^ a) <<< (8 * a)) else X) 0
noncomputable def ad_wy1 (c X : Nat) : Nat → Nat := ad_fd (fun a Y => if (ad_by Y a).testBit c then Y ||| (ad_by Y c <<< (8 * a)) else Y) X
noncomputable def ad_wy2 (X : Nat) : Nat → Nat := ad_fd (fun c Y => ad_wy1 c Y 8) X
noncomputable def ad_way (A : Nat → Nat) (g : Nat) : Nat := ad_wy2 (ad_wy0 A g 8) 8
def ad_low (l : Nat) : Nat := if l.testBit 0 then 0 else if l.testBit 1 then 1 else if l.testBit 2 then 2 else if l.testBit 3 then 3 else if l.testBit 4 then 4 else if l.testBit 5 then 5 else if l.testBit 6 then 6 else 7
noncomputable def ad_pr (C g m : Nat) : Nat → Nat := ad_fd (fun a r => if g.testBit a then (if (ad_by C m).testBit a then (if (ad_by C a).testBit m then r ||| 2 ^ a else r) else r) else r) 0
noncomputable def ad_part (C l g : Nat) : Nat := if l = 0 then 0 else ad_pr C g (ad_low l) 8
noncomputable def ad_nv (A : Nat → Nat) (h g a : Nat) : Bool := if (ad_cut g h).testBit a then !(decide (ad_att A (h ||| 2 ^ a) 8 &&& (h ||| 2 ^ a) = 0)) else true
noncomputable def ad_nav (A : Nat → Nat) (h g : Nat) : Bool := decide (ad_att A h 8 &&& h = 0) && (ad_nv A h g 0 && ad_nv A h g 1 && ad_nv A h g 2 && ad_nv A h g 3 && ad_nv A h g 4 && ad_nv A h g 5 && ad_nv A h g 6 && ad_nv A h g 7)
noncomputable def ad_psh (A : Nat → Nat) (s g C : Nat) (n : Nat) : Nat → List Nat → Option (List Nat) := Nat.rec (motive := fun _ => Nat → List Nat → Option (List Nat)) (fun _ _ => none) (fun _ ih l st => if l = 0 then some st else if st.length < 64 then ih (ad_cut l (ad_part C l g)) (ad_cut (ad_part C l g) (ad_att A (ad_cut (s &&& g) (ad_part C l g)) 8) :: st) else none) n
noncomputable def ad_fit (A : Nat → Nat) (s : Nat) (n : Nat) : List Nat → Option Bool := Nat.rec (motive := fun _ => List Nat → Option Bool) (fun _ => none) (fun _ ih st => match st with
  | [] => some true
  | g :: t => if ad_part (ad_way A g) g g = g then (if ad_nav A (s &&& g) g = true then ih t else some false) else match ad_psh A s g (ad_way A g) 9 g t with
    | none => none
    | some t' => ih t') n
noncomputable def ad_prs (A : Nat → Nat) (p F : Nat) : Nat → Nat := ad_fd (fun s r => if F.testBit s then (if ad_fit A s 12 [p] = some true then r ||| 2 ^ s else r) else r) 0
noncomputable def ad_cnt (X : Nat) : Nat → Nat := ad_fd (fun s r => if X.testBit s then r + 1 else r) 0
/-! ===== the 81 cases: an argument a (8: none), an argument b (8: none), and the attack of a on b ===== -/
def ad_one (a : Nat) : Bool := Nat.ble a 7
def ad_bit (a : Nat) : Nat := if ad_one a then 2 ^ a else 0
def ad_p (a b : Nat) : Nat := ad_bit a ||| ad_bit b
def ad_ht (a b : Nat) : Bool := ad_one a && ad_one b
def ad_A (a b j : Nat) : Nat := if ad_ht a b && Nat.beq j a then 2 ^ b else 0
def ad_B (a b j : Nat) : Nat := if ad_ht a b && Nat.beq j b then 2 ^ a else 0
def ad_slf (a b : Nat) : Bool := ad_ht a b && Nat.beq a b
def ad_non (a b k : Nat) : Bool := Nat.beq (ad_p a b) 0 || (ad_slf a b && !(Nat.beq k 5)) || Nat.ble k 1
def ad_lft (a b : Nat) : Bool := ad_one a && !(ad_slf a b)
def ad_rgt (a b k : Nat) : Bool := ad_one b && (!(Nat.beq a b) && (Nat.beq k 0 || Nat.beq k 8 || !(ad_one a)))
def ad_e (a b k : Nat) : Nat := ((if ad_non a b k then 1 else 0) ||| (if ad_lft a b then 2 ^ ad_bit a else 0)) ||| (if ad_rgt a b k then 2 ^ ad_bit b else 0)
def ad_due (a b k : Nat) : Nat := (if ad_non a b k then 1 else 0) + (if ad_lft a b then 1 else 0) + (if ad_rgt a b k then 1 else 0)
theorem ad_s0 : ∀ a, a < 9 → ∀ b, b < 9 → ad_free (ad_p a b) (ad_A a b) 8 = ad_e a b 0 := by decide +kernel
theorem ad_s1 : ∀ a, a < 9 → ∀ b, b < 9 → ad_adm (ad_B a b) (ad_e a b 0) 8 = ad_e a b 1 := by decide +kernel
theorem ad_s2 : ∀ a, a < 9 → ∀ b, b < 9 → ad_com (ad_p a b) (ad_B a b) (ad_e a b 1) 8 = ad_e a b 2 := by decide +kernel
theorem ad_s5 : ∀ a, a < 9 → ∀ b, b < 9 → ad_sta (ad_p a b) (ad_B a b) (ad_e a b 0) 8 = ad_e a b 5 := by decide +kernel
theorem ad_s3 : ∀ a, a < 9 → ∀ b, b < 9 → 2 ^ ad_lst (ad_p a b) (ad_A a b) (ad_B a b) 8 = ad_e a b 3 := by decide +kernel
theorem ad_s4 : ∀ a, a < 9 → ∀ b, b < 9 → ad_keep (ad_e a b 1) = ad_e a b 4 := by decide +kernel
theorem ad_s8 : ∀ a, a < 9 → ∀ b, b < 9 → ad_keep (ad_e a b 0) = ad_e a b 8 := by decide +kernel
theorem ad_s6 : ∀ a, a < 9 → ∀ b, b < 9 → ad_wid (ad_A a b) (ad_e a b 2) = ad_e a b 6 := by decide +kernel
theorem ad_s7 : ∀ a, a < 9 → ∀ b, b < 9 → ad_wid (ad_A a b) (ad_e a b 0) = ad_e a b 7 := by decide +kernel
theorem ad_s9 : ∀ a, a < 9 → ∀ b, b < 9 → ad_wit (ad_e a b 1) (ad_cmn (ad_p a b) (ad_e a b 4) 8) = ad_e a b 9 := by decide +kernel
theorem ad_s10 : ∀ a, a < 9 → ∀ b, b < 9 → ad_wit (ad_e a b 1) (ad_cmn (ad_p a b) (ad_e a b 6) 8) = ad_e a b 10 := by decide +kernel
theorem ad_s11 : ∀ a, a < 9 → ∀ b, b < 9 → ad_prs (ad_A a b) (ad_p a b) (ad_e a b 0) 256 = ad_e a b 11 := by decide +kernel
theorem ad_s11' : ∀ a, a < 9 → ∀ b, b < 9 → ∀ s, s < 256 → (ad_e a b 0).testBit s = true → (ad_fit (ad_A a b) s 12 [ad_p a b]).isSome = true := by decide +kernel
theorem ad_sc : ∀ a, a < 9 → ∀ b, b < 9 → ∀ k, k < 12 → ad_cnt (ad_e a b k) 256 = ad_due a b k := by decide +kernel
end
section
/-! ===== Int32 and Int64 against the numbers ===== -/
theorem ad_x32 {x y : Int32} (h : ∀ i, i < 32 → x.toBitVec.getLsbD i = y.toBitVec.getLsbD i) : x = y := Int32.toBitVec_inj.mp (BitVec.eq_of_getLsbD_eq (fun i hi => h i hi))
theorem ad_x64 {x y : Int64} (h : ∀ i, i < 64 → x.toBitVec.getLsbD i = y.toBitVec.getLsbD i) : x = y := Int64.toBitVec_inj.mp (BitVec.eq_of_getLsbD_eq (fun i hi => h i hi))
theorem ad_b32 (n : Nat) {i : Nat} (hi : i < 32) : (nI n).toBitVec.getLsbD i = n.testBit i := by
  show (BitVec.ofNat 32 n).getLsbD i = _
  rw [BitVec.getLsbD_ofNat]; simp [hi]
theorem ad_b64 (n : Nat) {i : Nat} (hi : i < 64) : (lN n).toBitVec.getLsbD i = n.testBit i := by
  show (BitVec.ofNat 64 n).getLsbD i = _
  rw [BitVec.getLsbD_ofNat]; simp [hi]
theorem ad_m32 {i : Nat} (hi : i < 32) : (-1 : Int32).toBitVec.getLsbD i = true := by
  show (BitVec.allOnes 32).getLsbD i = true
  rw [BitVec.getLsbD_allOnes]; simp [hi]
theorem ad_m64 {i : Nat} (hi : i < 64) : (-1 : Int64).toBitVec.getLsbD i = true := by
  show (BitVec.allOnes 64).getLsbD i = true
  rw [BitVec.getLsbD_allOnes]; simp [hi]
theorem ad_or (a b : Nat) : nI a ||| nI b = nI (a ||| b) := ad_x32 (fun i hi => by
  rw [Int32.toBitVec_or, BitVec.getLsbD_or, ad_b32 _ hi, ad_b32 _ hi, ad_b32 _ hi, Nat.testBit_or])
theorem ad_and (a b : Nat) : nI a &&& nI b = nI (a &&& b) := ad_x32 (fun i hi => by
  rw [Int32.toBitVec_and, BitVec.getLsbD_and, ad_b32 _ hi, ad_b32 _ hi, ad_b32 _ hi, Nat.testBit_and])
theorem ad_xor (a b : Nat) : nI a ^^^ nI b = nI (a ^^^ b) := ad_x32 (fun i hi => by
  rw [Int32.toBitVec_xor, BitVec.getLsbD_xor, ad_b32 _ hi, ad_b32 _ hi, ad_b32 _ hi, Nat.testBit_xor])
theorem ad_cutb (x y i : Nat) : (ad_cut x y).testBit i = (x.testBit i && !(y.testBit i)) := by
  unfold ad_cut
  rw [Nat.testBit_xor, Nat.testBit_and]
  cases x.testBit i <;> cases y.testBit i <;> rfl
theorem ad_nt (x y : Nat) : nI x &&& (nI y ^^^ (-1)) = nI (ad_cut x y) := ad_x32 (fun i hi => by
  rw [Int32.toBitVec_and, BitVec.getLsbD_and, Int32.toBitVec_xor, BitVec.getLsbD_xor, ad_b32 _ hi, ad_b32 _ hi, ad_b32 _ hi, ad_m32 hi, ad_cutb, Bool.xor_true])
/-- word w of a family -/
def ad_W (X w : Nat) : Int64 := lN (X >>> (64 * w))
theorem ad_Wb (X w : Nat) {i : Nat} (hi : i < 64) : (ad_W X w).toBitVec.getLsbD i = X.testBit (64 * w + i) := by
  unfold ad_W
  rw [ad_b64 _ hi, Nat.testBit_shiftRight]
theorem ad_Wor (X Y w : Nat) : ad_W (X ||| Y) w = ad_W X w ||| ad_W Y w := ad_x64 (fun i hi => by
  rw [Int64.toBitVec_or, BitVec.getLsbD_or, ad_Wb _ _ hi, ad_Wb _ _ hi, ad_Wb _ _ hi, Nat.testBit_or])
theorem ad_Wand (X Y w : Nat) : ad_W (X &&& Y) w = ad_W X w &&& ad_W Y w := ad_x64 (fun i hi => by
  rw [Int64.toBitVec_and, BitVec.getLsbD_and, ad_Wb _ _ hi, ad_Wb _ _ hi, ad_Wb _ _ hi, Nat.testBit_and])
theorem ad_Wcut (X Y w : Nat) : ad_W (ad_cut X Y) w = ad_W X w &&& (ad_W Y w ^^^ (-1)) := ad_x64 (fun i hi => by
  rw [Int64.toBitVec_and, BitVec.getLsbD_and, Int64.toBitVec_xor, BitVec.getLsbD_xor, ad_Wb _ _ hi, ad_Wb _ _ hi, ad_Wb _ _ hi, ad_m64 hi, ad_cutb, Bool.xor_true])
theorem ad_W0 (w : Nat) : ad_W 0 w = 0 := by
  unfold ad_W
  rw [Nat.zero_shiftRight]; rfl
theorem ad_WM : ∀ w, w < 4 → ad_W ad_M w = -1 := by decide +kernel
theorem ad_Wxor (X Y w : Nat) : ad_W (X ^^^ Y) w = ad_W X w ^^^ ad_W Y w := ad_x64 (fun i hi => by
  rw [Int64.toBitVec_xor, BitVec.getLsbD_xor, ad_Wb _ _ hi, ad_Wb _ _ hi, ad_Wb _ _ hi, Nat.testBit_xor])
theorem ad_Wnot (X : Nat) {w : Nat} (hw : w < 4) : ad_W (ad_M ^^^ X) w = ad_W X w ^^^ (-1) := by
  rw [ad_Wxor, ad_WM w hw, Int64.xor_comm]
theorem ad_Wnot' (X : Nat) {w : Nat} (hw : w < 4) : ad_W (X ^^^ ad_M) w = ad_W X w ^^^ (-1) := by
  rw [ad_Wxor, ad_WM w hw]
/-! one bit of an int, of a word -/
theorem ad_s31 : ∀ a, a < 8 → ((nI a &&& 31).toBitVec.smod 32).toNat = a := by decide +kernel
theorem ad_tb {s a : Nat} (hs : s < 256) (ha : a < 8) : ((nI s >>> (nI a &&& 31)) &&& 1) = 0 ↔ s.testBit a = false := by
  rw [pk_shrN (by omega) _ a (ad_s31 a ha), pk_andN (m := 1) (Nat.lt_of_le_of_lt (Nat.div_le_self _ _) (by omega)) 1 (by decide), ← nI_0, nI_eq (by omega) (by decide), Nat.testBit_eq_decide_div_mod_eq]
  simp
theorem ad_one32 : ∀ a, a < 8 → (1 : Int32) <<< (nI a &&& 31) = nI (2 ^ a) := by decide +kernel
theorem ad_sh : ∀ x, x < 256 → (nI x).toInt16.toInt32 = nI x := by decide +kernel
theorem ad_6 {s : Nat} (hs : s < 256) : nI s >>> ((6 : Int32) &&& 31) = nI (s / 64) := pk_shrN (by omega) _ 6 (by decide)
theorem ad_63 : ∀ s, s < 256 → nI s &&& 63 = nI (s % 64) := by decide +kernel
theorem ad_k63 : ∀ k, k < 64 → ((nI k).toInt64.toUInt64 &&& Int64.toUInt64 63).toNat = k := by decide +kernel
theorem ad_one64 : ∀ s, s < 256 → (1 : Int64) <<< ((nI s &&& 63).toInt64 &&& 63) = lN (2 ^ (s % 64)) := by decide +kernel
theorem ad_shr {w : Int64} {s : UInt64} {j i : Nat} (hj : j < 64) (hs : s.toNat = j) : (w.toUInt64 >>> s).toInt64.toBitVec.getLsbD i = w.toBitVec.getLsbD (j + i) := by
  have e : (w.toUInt64 >>> s).toInt64.toBitVec = w.toBitVec >>> j := by
    apply BitVec.eq_of_toNat_eq
    show (w.toUInt64 >>> s).toNat = _
    rw [UInt64.toNat_shiftRight, hs, Nat.mod_eq_of_lt hj, BitVec.toNat_ushiftRight]
    rfl
  rw [e, BitVec.getLsbD_ushiftRight]
theorem ad_b1 (x : Int64) : x &&& 1 = 0 ↔ x.toBitVec.getLsbD 0 = false := by
  constructor
  · intro h
    have h2 : (x &&& 1).toBitVec.getLsbD 0 = (0 : Int64).toBitVec.getLsbD 0 := by rw [h]
    rw [Int64.toBitVec_and, BitVec.getLsbD_and] at h2
    have h3 : (1 : Int64).toBitVec.getLsbD 0 = true := by decide
    have h4 : (0 : Int64).toBitVec.getLsbD 0 = false := by decide
    rw [h3, h4, Bool.and_true] at h2
    exact h2
  · intro h
    refine ad_x64 (fun i hi => ?_)
    have h4 : ∀ i, i < 64 → (0 : Int64).toBitVec.getLsbD i = false := by decide
    have h5 : ∀ i, i < 64 → i ≠ 0 → (1 : Int64).toBitVec.getLsbD i = false := by decide
    rw [Int64.toBitVec_and, BitVec.getLsbD_and, h4 i hi]
    by_cases e : i = 0
    · rw [e, h, Bool.false_and]
    · rw [h5 i hi e, Bool.and_false]
theorem ad_tbW {X w s : Nat} (hs : s < 256) (hw : w = s / 64) : ((((ad_W X w).toUInt64 >>> ((nI s &&& 63).toInt64.toUInt64 &&& Int64.toUInt64 63)).toInt64) &&& 1) = 0 ↔ X.testBit s = false := by
  rw [ad_b1, ad_63 s hs, ad_shr (j := s % 64) (Nat.mod_lt _ (by decide)) (ad_k63 _ (Nat.mod_lt _ (by decide))), Nat.add_zero, ad_Wb _ _ (Nat.mod_lt _ (by decide)), hw, Nat.div_add_mod]
theorem ad_Wp : ∀ s, s < 256 → ∀ w, w < 4 → ad_W (2 ^ s) w = if w = s / 64 then (1 : Int64) <<< ((nI s &&& 63).toInt64 &&& 63) else 0 := by decide +kernel
theorem ad_Wz {X : Nat} (hX : X < 2 ^ 256) (h : ∀ w, w < 4 → ad_W X w = 0) : X = 0 := by
  apply Nat.eq_of_testBit_eq
  intro i
  rw [Nat.zero_testBit]
  by_cases hi : i < 256
  · have e := h (i / 64) (by omega)
    have e2 := ad_Wb X (i / 64) (Nat.mod_lt i (show 0 < 64 by decide))
    rw [e, Nat.div_add_mod] at e2
    rw [← e2]
    have h4 : ∀ i, i < 64 → (0 : Int64).toBitVec.getLsbD i = false := by decide
    exact h4 _ (Nat.mod_lt _ (by decide))
  · exact Nat.testBit_lt_two_pow (Nat.lt_of_lt_of_le hX (Nat.pow_le_pow_right (by decide) (by omega)))
/-! bounds below 256, 2^256 -/
theorem ad_or8 {x y : Nat} (hx : x < 256) (hy : y < 256) : x ||| y < 256 := Nat.or_lt_two_pow (n := 8) hx hy
theorem ad_and8 {x y : Nat} (hx : x < 256) : x &&& y < 256 := Nat.lt_of_le_of_lt Nat.and_le_left hx
theorem ad_cut8 {x y : Nat} (hx : x < 256) : ad_cut x y < 256 := Nat.xor_lt_two_pow (n := 8) hx (ad_and8 hx)
theorem ad_p8 : ∀ a, a < 8 → 2 ^ a < 256 := by decide
theorem ad_H256 : ∀ a, a < 8 → ad_H a < 2 ^ 256 := by decide +kernel
/-! indices -/
theorem ad_4 (i w : Nat) : 4 * nI i + nI w = nI (4 * i + w) := by
  rw [show (4 : Int32) = nI 4 from rfl, pk_mul, nI_add]
theorem ad_4c {i w : Nat} (hi : i < 100) (hw : w < 100) : (4 * nI i + nI w).toNatClampNeg = 4 * i + w := pk_cl (4 * i + w) (ad_4 i w)
theorem ad_cl {i : Nat} (hi : i < 1000) : (nI i).toNatClampNeg = i := nI_clamp (by omega)
end
section
/-! ===== the methods that only read ===== -/
theorem ad_loop {σ : Type} (W : Nat → Nat → σ → Prop) (g : Nat → σ) (e : Nat) {s0 : σ} (h0 : s0 = g 0) (hx : ∀ n, W (n + 1) e (g e)) (hs : ∀ n i, i < e → (∀ s, s = g (i + 1) → W n (i + 1) s) → W (n + 1) i (g i)) : ∃ n, W n 0 s0 := by
  subst h0
  exact loop_0 W (fun i s => s = g i) e (g 0) rfl (fun n s h => by subst h; exact hx n) (fun n i s hi h hw => by subst h; exact hs n i hi hw)
/-- eight shorts, their numbers -/
def ad_h8 (a : Nat → Int32) (A : Nat → Nat) : Prop := ∀ j, j < 8 → a j = nI (A j) ∧ A j < 256
def ad_h3 (a : Nat → Int64) : Prop := ∀ i, i < 8 → ∀ w, w < 4 → a (4 * i + w) = ad_W (ad_H i) w
def ad_h4 (a : Nat → Int64) (F : Nat → Nat) : Prop := ∀ k, k < 12 → ∀ w, w < 4 → a (4 * k + w) = ad_W (F k) w
def ad_hw (a : Nat → Int64) (X : Nat) : Prop := ∀ w, w < 4 → a w = ad_W X w
/-- an int that names an argument a, or none (8) -/
def ad_ar (x : Int32) (a : Nat) : Prop := (a < 8 ∧ x = nI a) ∨ (a = 8 ∧ (x < 0 ∨ 7 < x))
theorem ad_arx (x : Int32) : ∃ a, a < 9 ∧ ad_ar x a := by
  rcases pk_ix x (n := 8) (by decide) with h | h | ⟨j, hj, e⟩
  · exact ⟨8, by decide, Or.inr ⟨rfl, Or.inl h⟩⟩
  · refine ⟨8, by decide, Or.inr ⟨rfl, Or.inr ?_⟩⟩
    have h2 : (nI 8).toInt ≤ x.toInt := Int32.le_iff_toInt_le.mp h
    exact Int32.lt_iff_toInt_lt.mpr (by
      have e8 : (nI 8).toInt = 8 := by decide
      have e7 : (7 : Int32).toInt = 7 := by decide
      omega)
  · exact ⟨j, by omega, Or.inl ⟨hj, e⟩⟩
section
variable {f0 f1 f2 : Int32} {a1 a2 : Nat → Int32} {a3 a4 a5 a6 a7 : Nat → Int64} {a8 a9 : Nat → Int32}
theorem ad_isIn {P Q : Prop} {u : St2} {x y : Int32} (s a : Nat) (f : s.testBit a = false → P) (g : s.testBit a = true → Q) (hs : s < 256) (ha : a < 8) (hx : x = nI s := by rfl) (hy : y = nI a := by rfl) : wpX_isIn (fun r => (((r = 0 → P) ∧ (¬ r = 0 → Q)))) u x y := by
  obtain ⟨f0, f1, f2, a1, a2, a3, a4, a5, a6, a7, a8, a9⟩ := u
  subst hx hy
  unfold wpX_isIn
  dsimp only
  exact ek_if (ad_tb hs ha) (fun z => ⟨fun _ => f z, fun t => absurd rfl t⟩) (fun z => ⟨fun t => absurd t (by decide), fun _ => g (by simpa using z)⟩)
theorem ad_isThere {P Q : Prop} {x : Int32} {p a : Nat} (hx : ad_ar x a) (hp : p < 256) (hf : f0 = nI p) (f : p.testBit a = false → P) (g : p.testBit a = true → Q) : wpX_isThere (fun r => (((r = 0 → P) ∧ (¬ r = 0 → Q)))) (f0, f1, f2, a1, a2, a3, a4, a5, a6, a7, a8, a9) x := by
  unfold wpX_isThere
  dsimp only
  rcases hx with ⟨ha, rfl⟩ | ⟨rfl, h⟩
  · refine br_f (nI_pos (by omega)) (br_f (nI_ge (b := 8) ha (by decide)) ?_)
    exact ad_isIn p a (fun z => ⟨fun _ => f z, fun t => absurd rfl t⟩) (fun z => ⟨fun t => absurd t (by decide), fun _ => g z⟩) hp ha hf rfl
  · have z : p.testBit 8 = false := Nat.testBit_lt_two_pow hp
    refine br_c (fun _ => ⟨fun _ => f z, fun t => absurd rfl t⟩) (fun h0 => br_t ?_ ⟨fun _ => f z, fun t => absurd rfl t⟩)
    rcases h with h | h
    · exact absurd h h0
    · have h2 : (7 : Int32).toInt < x.toInt := Int32.lt_iff_toInt_lt.mp h
      exact Int32.le_iff_toInt_le.mpr (by
        have e8 : (8 : Int32).toInt = 8 := by decide
        have e7 : (7 : Int32).toInt = 7 := by decide
        omega)
theorem ad_hit_t {s i : Nat} (h : s.testBit i = true) : ad_hit s (i + 1) = ad_hit s i ||| ad_H i := if_pos h
theorem ad_hit_f {s i : Nat} (h : s.testBit i = false) : ad_hit s (i + 1) = ad_hit s i := if_neg (by rw [h]; decide)
theorem ad_hitting {post : Int64 → Prop} {x y : Int32} (s w : Nat) (h3 : ad_h3 a3) (hs : s < 256) (hw : w < 4) (H : post (ad_W (ad_hit s 8) w)) (hx : x = nI s := by rfl) (hy : y = nI w := by rfl) : wpX_hitting post (f0, f1, f2, a1, a2, a3, a4, a5, a6, a7, a8, a9) x y := by
  subst hx hy
  refine ad_loop (fun n i r => wX_hitting_5 post (nI s) (nI w) f0 f1 f2 a1 a2 a3 a4 a5 a6 a7 a8 a9 n r (nI i)) (fun i => ad_W (ad_hit s i) w) 8 (ad_W0 w).symm ?_ ?_
  · intro n
    exact pk_le 8 8 (fun _ => H) (fun z => absurd z (by omega))
  · intro n i hi k
    refine pk_le 8 i (fun z => absurd z (by omega)) (fun _ => ?_)
    refine ad_isIn s i (fun hb => nm_r (nI_1 i) (k _ ?_)) (fun hb => ⟨pk_in (4 * i + w) 32 (by omega) (ad_4 i w), nm_e (nm_r (nI_1 i) (k _ ?_))⟩) hs hi
    · show _ = ad_W (ad_hit s (i + 1)) w
      rw [ad_hit_f hb]
    · show _ = ad_W (ad_hit s (i + 1)) w
      rw [ad_4c (by omega) (by omega), h3 i hi w hw, ad_hit_t hb, ad_Wor]
theorem ad_att_t {A : Nat → Nat} {s i : Nat} (h : s.testBit i = true) : ad_att A s (i + 1) = ad_att A s i ||| A i := if_pos h
theorem ad_att_f {A : Nat → Nat} {s i : Nat} (h : s.testBit i = false) : ad_att A s (i + 1) = ad_att A s i := if_neg (by rw [h]; decide)
theorem ad_att8 {A : Nat → Nat} {s : Nat} (hA : ∀ j, j < 8 → A j < 256) : ∀ i, i ≤ 8 → ad_att A s i < 256 := by
  intro i
  induction i with
  | zero => intro _; exact (by decide : 0 < 256)
  | succ i ih =>
    intro hi
    cases hb : s.testBit i with
    | false => rw [ad_att_f hb]; exact ih (by omega)
    | true => rw [ad_att_t hb]; exact ad_or8 (ih (by omega)) (hA i (by omega))
theorem ad_attacked {post : Int32 → Prop} {x : Int32} {A : Nat → Nat} (s : Nat) (h1 : ad_h8 a1 A) (hs : s < 256) (H : ad_att A s 8 < 256 → post (nI (ad_att A s 8))) (hx : x = nI s := by rfl) : wpX_attackedFrom post (f0, f1, f2, a1, a2, a3, a4, a5, a6, a7, a8, a9) x := by
  subst hx
  refine ad_loop (fun n i r => wX_attackedFrom_4 post (nI s) f0 f1 f2 a1 a2 a3 a4 a5 a6 a7 a8 a9 n r (nI i)) (fun i => nI (ad_att A s i)) 8 rfl ?_ ?_
  · intro n
    exact pk_le 8 8 (fun _ => H (ad_att8 (fun j hj => (h1 j hj).2) 8 (Nat.le_refl 8))) (fun z => absurd z (by omega))
  · intro n i hi k
    refine pk_le 8 i (fun z => absurd z (by omega)) (fun _ => ?_)
    refine ad_isIn s i (fun hb => nm_r (nI_1 i) (k _ ?_)) (fun hb => ⟨pk_in i 8 (by omega), nm_e (nm_r (nI_1 i) (k _ ?_))⟩) hs hi
    · show _ = nI (ad_att A s (i + 1))
      rw [ad_att_f hb]
    · show _ = nI (ad_att A s (i + 1))
      rw [ad_cl (by omega), (h1 i hi).1, ad_att_t hb, ad_or]
theorem ad_dg_t {B : Nat → Nat} {a i : Nat} (h : (B a).testBit i = true) : ad_dg B a (i + 1) = ad_dg B a i &&& ad_hit (B i) 8 := if_pos h
theorem ad_dg_f {B : Nat → Nat} {a i : Nat} (h : (B a).testBit i = false) : ad_dg B a (i + 1) = ad_dg B a i := if_neg (by rw [h]; decide)
theorem ad_defending {post : Int64 → Prop} {x y : Int32} {B : Nat → Nat} (a w : Nat) (h2 : ad_h8 a2 B) (h3 : ad_h3 a3) (ha : a < 8) (hw : w < 4) (H : post (ad_W (ad_dg B a 8) w)) (hx : x = nI a := by rfl) (hy : y = nI w := by rfl) : wpX_defending post (f0, f1, f2, a1, a2, a3, a4, a5, a6, a7, a8, a9) x y := by
  subst hx hy
  refine ad_loop (fun n i r => wX_defending_7 post (nI a) (nI w) f0 f1 f2 a1 a2 a3 a4 a5 a6 a7 a8 a9 n r (nI i)) (fun i => ad_W (ad_dg B a i) w) 8 (ad_WM w hw).symm ?_ ?_
  · intro n
    exact pk_le 8 8 (fun _ => H) (fun z => absurd z (by omega))
  · intro n i hi k
    refine pk_le 8 i (fun z => absurd z (by omega)) (fun _ => ⟨pk_in a 8 ha, ?_⟩)
    refine ad_isIn (B a) i (fun hb => nm_r (nI_1 i) (k _ ?_)) (fun hb => ⟨pk_in i 8 (by omega), ?_⟩) (h2 a ha).2 hi (by rw [ad_cl (by omega)]; exact (h2 a ha).1)
    · show _ = ad_W (ad_dg B a (i + 1)) w
      rw [ad_dg_f hb]
    · refine ad_hitting (B i) w h3 (h2 i hi).2 hw (nm_e (nm_r (nI_1 i) (k _ ?_))) (by rw [ad_cl (by omega)]; exact (h2 i hi).1)
      show _ = ad_W (ad_dg B a (i + 1)) w
      rw [ad_dg_t hb, ad_Wand]
theorem ad_dfd_f {p t i : Nat} {B : Nat → Nat} (h : p.testBit i = false) : ad_dfd p B t (i + 1) = ad_dfd p B t i := if_neg (by rw [h]; decide)
theorem ad_dfd_t {p t i : Nat} {B : Nat → Nat} (h : p.testBit i = true) (h2 : ad_cut (B i) t = 0) : ad_dfd p B t (i + 1) = ad_dfd p B t i ||| 2 ^ i := Eq.trans (if_pos h) (if_pos h2)
theorem ad_dfd_n {p t i : Nat} {B : Nat → Nat} (h : p.testBit i = true) (h2 : ¬ ad_cut (B i) t = 0) : ad_dfd p B t (i + 1) = ad_dfd p B t i := Eq.trans (if_pos h) (if_neg h2)
theorem ad_dfd8 {p t : Nat} {B : Nat → Nat} : ∀ i, i ≤ 8 → ad_dfd p B t i < 256 := by
  intro i
  induction i with
  | zero => intro _; exact (by decide : 0 < 256)
  | succ i ih =>
    intro hi
    cases hb : p.testBit i with
    | false => rw [ad_dfd_f hb]; exact ih (by omega)
    | true =>
      by_cases hc : ad_cut (B i) t = 0
      · rw [ad_dfd_t hb hc]; exact ad_or8 (ih (by omega)) (ad_p8 i (by omega))
      · rw [ad_dfd_n hb hc]; exact ih (by omega)
theorem ad_eq0 {x : Nat} {y : Int32} (h : y = nI x) (hx : x < 256) : y = 0 ↔ x = 0 := by
  rw [h, ← nI_0]
  exact nI_eq (by omega) (by decide)
theorem ad_defended {post : Int32 → Prop} {x : Int32} {A B : Nat → Nat} {p : Nat} (s : Nat) (h1 : ad_h8 a1 A) (h2 : ad_h8 a2 B) (hp : p < 256) (hf : f0 = nI p) (hs : s < 256) (H : post (nI (ad_dfd p B (ad_att A s 8) 8))) (hx : x = nI s := by rfl) : wpX_defendedBy post (f0, f1, f2, a1, a2, a3, a4, a5, a6, a7, a8, a9) x := by
  unfold wpX_defendedBy
  dsimp only
  refine ad_attacked s h1 hs (fun ht => ?_) hx
  refine ad_loop (fun n i r => wX_defendedBy_11 post (nI (ad_att A s 8)) f0 f1 f2 a1 a2 a3 a4 a5 a6 a7 a8 a9 n r (nI i)) (fun i => nI (ad_dfd p B (ad_att A s 8) i)) 8 rfl ?_ ?_
  · intro n
    exact pk_le 8 8 (fun _ => H) (fun z => absurd z (by omega))
  · intro n i hi k
    refine pk_le 8 i (fun z => absurd z (by omega)) (fun _ => ?_)
    refine ad_isIn p i (fun hb => nm_r (nI_1 i) (k _ ?_)) (fun hb => ⟨pk_in i 8 (by omega), ?_⟩) hp hi hf
    · show _ = nI (ad_dfd p B (ad_att A s 8) (i + 1))
      rw [ad_dfd_f hb]
    · refine ek_if (ad_eq0 (x := ad_cut (B i) (ad_att A s 8)) ?_ (ad_cut8 (h2 i hi).2)) (fun hc => nm_e (nm_r (nI_1 i) (k _ ?_))) (fun hc => nm_r (nI_1 i) (k _ ?_))
      · rw [ad_cl (by omega), (h2 i hi).1, ad_nt]
      · show _ = nI (ad_dfd p B (ad_att A s 8) (i + 1))
        rw [ad_one32 i hi, ad_dfd_t hb hc, ad_or]
      · show _ = nI (ad_dfd p B (ad_att A s 8) (i + 1))
        rw [ad_dfd_n hb hc]
theorem ad_reach {post : Int32 → Prop} {x : Int32} {A : Nat → Nat} (s : Nat) (h1 : ad_h8 a1 A) (hs : s < 256) (H : ad_rch A s < 256 → post (nI (ad_rch A s))) (hx : x = nI s := by rfl) : wpX_reachOf post (f0, f1, f2, a1, a2, a3, a4, a5, a6, a7, a8, a9) x := by
  unfold wpX_reachOf
  dsimp only
  refine ad_attacked s h1 hs (fun ht => ?_) hx
  rw [hx, ad_or]
  exact H (ad_or8 hs ht)
theorem ad_inFamG {post : Int32 → Prop} {x y : Int32} {F : Nat → Nat} (k s : Nat) (h4 : ad_h4 a4 F) (hk : k < 12) (hs : s < 256) (f : (F k).testBit s = false → post 0) (g : (F k).testBit s = true → post 1) (hx : x = nI k := by rfl) (hy : y = nI s := by rfl) : wpX_isInFamily post (f0, f1, f2, a1, a2, a3, a4, a5, a6, a7, a8, a9) x y := by
  subst hx hy
  unfold wpX_isInFamily
  dsimp only
  rw [ad_6 hs]
  refine ⟨pk_in (4 * k + s / 64) 48 (by omega) (ad_4 k (s / 64)), ?_⟩
  rw [ad_4c (by omega) (by omega), h4 k hk (s / 64) (by omega)]
  exact ek_if (ad_tbW hs rfl) f (fun z => g (by simpa using z))
theorem ad_inFam {P Q : Prop} {x y : Int32} {F : Nat → Nat} (k s : Nat) (h4 : ad_h4 a4 F) (hk : k < 12) (hs : s < 256) (f : (F k).testBit s = false → P) (g : (F k).testBit s = true → Q) (hx : x = nI k := by rfl) (hy : y = nI s := by rfl) : wpX_isInFamily (fun r => (((r = 0 → P) ∧ (¬ r = 0 → Q)))) (f0, f1, f2, a1, a2, a3, a4, a5, a6, a7, a8, a9) x y :=
  ad_inFamG k s h4 hk hs (fun z => ⟨fun _ => f z, fun t => absurd rfl t⟩) (fun z => ⟨fun t => absurd t (by decide), fun _ => g z⟩) hx hy
theorem ad_meets {P Q : Prop} {x y : Int32} {F : Nat → Nat} (k a : Nat) (h3 : ad_h3 a3) (h4 : ad_h4 a4 F) (hk : k < 12) (ha : a < 8) (f : F k &&& (ad_H a ^^^ ad_M) = 0 → P) (g : ¬ F k &&& (ad_H a ^^^ ad_M) = 0 → Q) (hx : x = nI k := by rfl) (hy : y = nI a := by rfl) : wpX_meets (fun r => (((r = 0 → P) ∧ (¬ r = 0 → Q)))) (f0, f1, f2, a1, a2, a3, a4, a5, a6, a7, a8, a9) x y (-1) := by
  subst hx hy
  have hY : F k &&& (ad_H a ^^^ ad_M) < 2 ^ 256 := Nat.and_lt_two_pow _ (Nat.xor_lt_two_pow (ad_H256 a ha) (by decide +kernel))
  refine loop_0 (σ := Unit) (fun n i _ => wX_meets_3 (fun r => (((r = 0 → P) ∧ (¬ r = 0 → Q)))) (nI k) (nI a) (-1) f0 f1 f2 a1 a2 a3 a4 a5 a6 a7 a8 a9 n (nI i)) (fun i _ => ∀ w, w < i → ad_W (F k &&& (ad_H a ^^^ ad_M)) w = 0) 4 () (fun w hw => absurd hw (by omega)) ?_ ?_
  · intro n _ h
    exact pk_le 4 4 (fun _ => ⟨fun _ => f (ad_Wz hY h), fun t => absurd rfl t⟩) (fun z => absurd z (by omega))
  · intro n i _ hi h kk
    refine pk_le 4 i (fun z => absurd z (by omega)) (fun _ => ⟨pk_in (4 * k + i) 48 (by omega) (ad_4 k i), pk_in (4 * a + i) 32 (by omega) (ad_4 a i), ?_⟩)
    rw [ad_4c (by omega) (by omega), ad_4c (by omega) (by omega), h4 k hk i hi, h3 a ha i hi, ← ad_Wnot' _ hi, ← ad_Wand]
    refine br_c (fun z => nm_r (nI_1 i) (kk () (lt_s h z))) (fun z => ⟨fun t => absurd t (by decide), fun _ => g (fun t => z ?_)⟩)
    rw [t]
    exact ad_W0 i
theorem ad_cmn_t {p F i : Nat} (h : F &&& (ad_H i ^^^ ad_M) = 0) : ad_cmn p F (i + 1) = ad_cmn p F i := if_pos h
theorem ad_cmn_f {p F i : Nat} (h : ¬ F &&& (ad_H i ^^^ ad_M) = 0) : ad_cmn p F (i + 1) = ad_cut (ad_cmn p F i) (2 ^ i) := if_neg h
theorem ad_cmn8 {p F : Nat} (hp : p < 256) : ∀ i, ad_cmn p F i < 256 := by
  intro i
  induction i with
  | zero => exact hp
  | succ i ih =>
    by_cases h : F &&& (ad_H i ^^^ ad_M) = 0
    · rw [ad_cmn_t h]; exact ih
    · rw [ad_cmn_f h]; exact ad_cut8 ih
theorem ad_common {post : Int32 → Prop} {x : Int32} {F : Nat → Nat} {p : Nat} (k : Nat) (h3 : ad_h3 a3) (h4 : ad_h4 a4 F) (hf : f0 = nI p) (hk : k < 12) (H : post (nI (ad_cmn p (F k) 8))) (hx : x = nI k := by rfl) : wpX_commonOf post (f0, f1, f2, a1, a2, a3, a4, a5, a6, a7, a8, a9) x := by
  subst hx
  refine ad_loop (fun n i r => wX_commonOf_7 post (nI k) f0 f1 f2 a1 a2 a3 a4 a5 a6 a7 a8 a9 n r (nI i)) (fun i => nI (ad_cmn p (F k) i)) 8 hf ?_ ?_
  · intro n
    exact pk_le 8 8 (fun _ => H) (fun z => absurd z (by omega))
  · intro n i hi kk
    refine pk_le 8 i (fun z => absurd z (by omega)) (fun _ => ?_)
    refine ad_meets k i h3 h4 hk hi (fun z => nm_r (nI_1 i) (kk _ ?_)) (fun z => nm_e (nm_r (nI_1 i) (kk _ ?_)))
    · show _ = nI (ad_cmn p (F k) (i + 1))
      rw [ad_cmn_t z]
    · show _ = nI (ad_cmn p (F k) (i + 1))
      rw [ad_one32 i hi, ad_nt, ad_cmn_f z]
end
end
section
/-! ===== below, partOf, isNaive ===== -/
theorem ad_belLo : ∀ a, a < 6 → ∀ w, w < 4 → ∀ i, i < 64 → 64 ≤ 2 ^ a + i → (ad_H a).testBit (2 ^ a + (64 * w + i)) = false := by decide +kernel
theorem ad_sh1 : ∀ a, a < 6 → (((1 : Int32) <<< (nI a &&& 31)).toInt64.toUInt64 &&& Int64.toUInt64 63).toNat = 2 ^ a := by decide +kernel
theorem ad_p64 : ∀ a, a < 6 → 2 ^ a < 64 := by decide
theorem ad_bel_lo {X a w : Nat} (ha : a < 6) (hw : w < 4) : ((ad_W X w &&& ad_W (ad_H a) w).toUInt64 >>> (((1 : Int32) <<< (nI a &&& 31)).toInt64.toUInt64 &&& Int64.toUInt64 63)).toInt64 = ad_W (ad_bel a X) w := by
  rw [← ad_Wand]
  refine ad_x64 (fun i hi => ?_)
  rw [ad_shr (j := 2 ^ a) (ad_p64 a ha) (ad_sh1 a ha), ad_Wb _ _ hi]
  unfold ad_bel
  rw [Nat.testBit_shiftRight]
  by_cases h : 2 ^ a + i < 64
  · rw [ad_Wb _ _ h, show 64 * w + (2 ^ a + i) = 2 ^ a + (64 * w + i) by omega]
  · rw [BitVec.getLsbD_of_ge _ _ (by omega), Nat.testBit_and, ad_belLo a ha w hw i hi (by omega), Bool.and_false]
theorem ad_bel_up {X a w v : Nat} (h1 : ∀ i, i < 64 → (ad_H a).testBit (2 ^ a + (64 * w + i)) = true) (h2 : 64 * v = 2 ^ a + 64 * w) : ad_W X v = ad_W (ad_bel a X) w := by
  refine ad_x64 (fun i hi => ?_)
  rw [ad_Wb _ _ hi, ad_Wb _ _ hi]
  unfold ad_bel
  rw [Nat.testBit_shiftRight, Nat.testBit_and, h1 i hi, Bool.and_true, h2, Nat.add_assoc]
theorem ad_bel_z {X a w : Nat} (h1 : ∀ i, i < 64 → (ad_H a).testBit (2 ^ a + (64 * w + i)) = false) : ad_W (ad_bel a X) w = 0 := by
  rw [← ad_W0 w]
  refine ad_x64 (fun i hi => ?_)
  rw [ad_Wb _ _ hi, ad_Wb _ _ hi]
  unfold ad_bel
  rw [Nat.testBit_shiftRight, Nat.testBit_and, h1 i hi, Bool.and_false, Nat.zero_testBit]
section
variable {f0 f1 f2 : Int32} {a1 a2 : Nat → Int32} {a3 a4 a5 a6 a7 : Nat → Int64} {a8 a9 : Nat → Int32}
theorem ad_b39u {post : Int64 → Prop} {X a w v q : Nat} {x z : Int32} (hx : x = nI w) (hz : z = nI q) (hv : w + q = v) (h0 : nI w &&& nI q = 0) (v4 : v < 4) (h6 : a6 v = ad_W X v) (e : ad_W X v = ad_W (ad_bel a X) w) (H : post (ad_W (ad_bel a X) w)) : wX_below_39 post x z f0 f1 f2 a1 a2 a3 a4 a5 a6 a7 a8 a9 := by
  subst hx hz
  unfold wX_below_39
  have hi : nI w + nI q = nI v := by rw [nI_add, hv]
  refine br_t h0 ⟨pk_in v 4 v4 hi, ?_⟩
  rw [hi, ad_cl (by omega), h6, e]
  exact H
theorem ad_b39z {post : Int64 → Prop} {X a w q : Nat} {x z : Int32} (hx : x = nI w) (hz : z = nI q) (h0 : ¬ nI w &&& nI q = 0) (e : ad_W (ad_bel a X) w = 0) (H : post (ad_W (ad_bel a X) w)) : wX_below_39 post x z f0 f1 f2 a1 a2 a3 a4 a5 a6 a7 a8 a9 := by
  subst hx hz
  unfold wX_below_39
  rw [e] at H
  exact br_f h0 H
theorem ad_below {post : Int64 → Prop} {x y : Int32} {X : Nat} (a w : Nat) (h3 : ad_h3 a3) (h6 : ∀ v, w ≤ v → v < 4 → a6 v = ad_W X v) (ha : a < 8) (hw : w < 4) (H : post (ad_W (ad_bel a X) w)) (hx : x = nI a := by rfl) (hy : y = nI w := by rfl) : wpX_below post (f0, f1, f2, a1, a2, a3, a4, a5, a6, a7, a8, a9) x y := by
  subst hx hy
  unfold wpX_below
  dsimp only
  refine pk_le 6 a (fun z => ?_) (fun z => ⟨pk_in w 4 hw, pk_in (4 * a + w) 32 (by omega) (ad_4 a w), ?_⟩)
  · rcases (show a = 6 ∨ a = 7 by omega) with rfl | rfl
    · refine br_t rfl ?_
      rcases (show w = 0 ∨ w = 1 ∨ w = 2 ∨ w = 3 by omega) with rfl | rfl | rfl | rfl
      · exact ad_b39u (v := 1) (q := 1) rfl rfl rfl (by decide) (by decide) (h6 1 (by decide) (by decide)) (ad_bel_up (by decide +kernel) (by decide)) H
      · exact ad_b39z (q := 1) rfl rfl (by decide) (ad_bel_z (by decide +kernel)) H
      · exact ad_b39u (v := 3) (q := 1) rfl rfl rfl (by decide) (by decide) (h6 3 (by decide) (by decide)) (ad_bel_up (by decide +kernel) (by decide)) H
      · exact ad_b39z (q := 1) rfl rfl (by decide) (ad_bel_z (by decide +kernel)) H
    · refine br_f (by decide) ?_
      rcases (show w = 0 ∨ w = 1 ∨ w = 2 ∨ w = 3 by omega) with rfl | rfl | rfl | rfl
      · exact ad_b39u (v := 2) (q := 2) rfl rfl rfl (by decide) (by decide) (h6 2 (by decide) (by decide)) (ad_bel_up (by decide +kernel) (by decide)) H
      · exact ad_b39u (v := 3) (q := 2) rfl rfl rfl (by decide) (by decide) (h6 3 (by decide) (by decide)) (ad_bel_up (by decide +kernel) (by decide)) H
      · exact ad_b39z (q := 2) rfl rfl (by decide) (ad_bel_z (by decide +kernel)) H
      · exact ad_b39z (q := 2) rfl rfl (by decide) (ad_bel_z (by decide +kernel)) H
  · rw [ad_4c (by omega) (by omega), ad_cl (by omega), h6 w (Nat.le_refl w) hw, h3 a ha w hw, ad_bel_lo z hw]
    exact H
theorem ad_lowP : ∀ l, l < 256 → l ≠ 0 → ad_low l < 8 ∧ l.testBit (ad_low l) = true ∧ ∀ j, j < ad_low l → l.testBit j = false := by decide +kernel
theorem ad_by8 (X j : Nat) : ad_by X j < 256 := Nat.mod_lt _ (by decide)
theorem ad_pr_0 {C g m i : Nat} (h : g.testBit i = false) : ad_pr C g m (i + 1) = ad_pr C g m i := if_neg (by rw [h]; decide)
theorem ad_pr_1 {C g m i : Nat} (h : g.testBit i = true) (h2 : (ad_by C m).testBit i = false) : ad_pr C g m (i + 1) = ad_pr C g m i := Eq.trans (if_pos h) (if_neg (by rw [h2]; decide))
theorem ad_pr_2 {C g m i : Nat} (h : g.testBit i = true) (h2 : (ad_by C m).testBit i = true) (h3 : (ad_by C i).testBit m = false) : ad_pr C g m (i + 1) = ad_pr C g m i := Eq.trans (if_pos h) (Eq.trans (if_pos h2) (if_neg (by rw [h3]; decide)))
theorem ad_pr_3 {C g m i : Nat} (h : g.testBit i = true) (h2 : (ad_by C m).testBit i = true) (h3 : (ad_by C i).testBit m = true) : ad_pr C g m (i + 1) = ad_pr C g m i ||| 2 ^ i := Eq.trans (if_pos h) (Eq.trans (if_pos h2) (if_pos h3))
theorem ad_pr8 {C g m : Nat} : ∀ i, i ≤ 8 → ad_pr C g m i < 256 := by
  intro i
  induction i with
  | zero => intro _; exact (by decide : 0 < 256)
  | succ i ih =>
    intro hi
    have t := ih (by omega)
    cases hb : g.testBit i with
    | false => rw [ad_pr_0 hb]; exact t
    | true =>
      cases hc : (ad_by C m).testBit i with
      | false => rw [ad_pr_1 hb hc]; exact t
      | true =>
        cases hd : (ad_by C i).testBit m with
        | false => rw [ad_pr_2 hb hc hd]; exact t
        | true => rw [ad_pr_3 hb hc hd]; exact ad_or8 t (ad_p8 i (by omega))
def ad_h9 (a : Nat → Int32) (C : Nat) : Prop := ∀ j, j < 8 → a j = nI (ad_by C j)
theorem ad_pt29 {post : Int32 → Prop} {C : Nat} (g m : Nat) (h9 : ad_h9 a9 C) (hg : g < 256) (hm : m < 8) (H : post (nI (ad_pr C g m 8))) : ∃ n, wX_partOf_29 post (nI g) (nI m) f0 f1 f2 a1 a2 a3 a4 a5 a6 a7 a8 a9 n 0 0 := by
  refine ad_loop (fun n i r => wX_partOf_29 post (nI g) (nI m) f0 f1 f2 a1 a2 a3 a4 a5 a6 a7 a8 a9 n r (nI i)) (fun i => nI (ad_pr C g m i)) 8 rfl ?_ ?_
  · intro n
    exact pk_le 8 8 (fun _ => H) (fun z => absurd z (by omega))
  · intro n i hi k
    have em : a9 (nI m).toNatClampNeg = nI (ad_by C m) := by rw [ad_cl (by omega)]; exact h9 m hm
    have ei : a9 (nI i).toNatClampNeg = nI (ad_by C i) := by rw [ad_cl (by omega)]; exact h9 i hi
    refine pk_le 8 i (fun z => absurd z (by omega)) (fun _ => ?_)
    refine ad_isIn g i (fun hb => nm_r (nI_1 i) (k _ (congrArg nI (ad_pr_0 hb).symm))) (fun hb => ⟨pk_in m 8 hm, ?_⟩) hg hi
    refine ad_isIn (ad_by C m) i (fun hc => nm_r (nI_1 i) (k _ (congrArg nI (ad_pr_1 hb hc).symm))) (fun hc => ⟨pk_in i 8 hi, ?_⟩) (ad_by8 C m) hi em
    refine ad_isIn (ad_by C i) m (fun hd => nm_r (nI_1 i) (k _ (congrArg nI (ad_pr_2 hb hc hd).symm))) (fun hd => nm_e (nm_r (nI_1 i) (k _ ?_))) (ad_by8 C i) hm ei
    show _ = nI (ad_pr C g m (i + 1))
    rw [ad_one32 i hi, ad_pr_3 hb hc hd, ad_or]
theorem ad_partOf {post : Int32 → Prop} {x y : Int32} {C : Nat} (l g : Nat) (h9 : ad_h9 a9 C) (hl : l < 256) (hg : g < 256) (H : ad_part C l g < 256 → post (nI (ad_part C l g))) (hx : x = nI l := by rfl) (hy : y = nI g := by rfl) : wpX_partOf post (f0, f1, f2, a1, a2, a3, a4, a5, a6, a7, a8, a9) x y := by
  subst hx hy
  unfold wpX_partOf
  dsimp only
  refine ek_if (ad_eq0 rfl hl) (fun z => ?_) (fun z => ?_)
  · have e : ad_part C l g = 0 := if_pos z
    rw [e] at H
    exact H (by decide)
  · obtain ⟨m8, mt, mf⟩ := ad_lowP l hl z
    have e : ad_part C l g = ad_pr C g (ad_low l) 8 := if_neg z
    rw [e] at H
    generalize ad_low l = m at *
    refine loop_0 (σ := Unit) (fun n i _ => wX_partOf_8 post (nI l) (nI g) f0 f1 f2 a1 a2 a3 a4 a5 a6 a7 a8 a9 n (nI i)) (fun _ _ => True) m () trivial ?_ ?_
    · intro n _ _
      refine ad_isIn (u := (f0, f1, f2, a1, a2, a3, a4, a5, a6, a7, a8, a9)) l m (fun hb => ?_) (fun _ => ?_) hl m8
      · rw [mt] at hb
        exact absurd hb (by decide)
      · exact ad_pt29 g m h9 hg m8 (H (ad_pr8 8 (Nat.le_refl 8)))
    · intro n i _ hi _ k
      refine ad_isIn (u := (f0, f1, f2, a1, a2, a3, a4, a5, a6, a7, a8, a9)) l i (fun hb => nm_r (nI_1 i) (k () trivial)) (fun hb => ?_) hl (by omega)
      rw [mf i hi] at hb
      exact absurd hb (by decide)
theorem ad_nv_0 {A : Nat → Nat} {h g a : Nat} (hb : (ad_cut g h).testBit a = false) : ad_nv A h g a = true := if_neg (by rw [hb]; decide)
theorem ad_nv_1 {A : Nat → Nat} {h g a : Nat} (hb : (ad_cut g h).testBit a = true) (hc : ad_att A (h ||| 2 ^ a) 8 &&& (h ||| 2 ^ a) = 0) : ad_nv A h g a = false := Eq.trans (if_pos hb) (by rw [hc]; rfl)
theorem ad_nv_2 {A : Nat → Nat} {h g a : Nat} (hb : (ad_cut g h).testBit a = true) (hc : ¬ ad_att A (h ||| 2 ^ a) 8 &&& (h ||| 2 ^ a) = 0) : ad_nv A h g a = true := Eq.trans (if_pos hb) (by rw [decide_eq_false hc]; rfl)
theorem ad_nav_t {A : Nat → Nat} {h g : Nat} (h0 : ad_att A h 8 &&& h = 0) (ha : ∀ a, a < 8 → ad_nv A h g a = true) : ad_nav A h g = true := by
  unfold ad_nav
  rw [decide_eq_true h0, ha 0 (by decide), ha 1 (by decide), ha 2 (by decide), ha 3 (by decide), ha 4 (by decide), ha 5 (by decide), ha 6 (by decide), ha 7 (by decide)]
  rfl
theorem ad_nav_f {A : Nat → Nat} {h g a : Nat} (ha : a < 8) (hf : ad_nv A h g a = false) : ad_nav A h g = false := by
  unfold ad_nav
  rcases (show a = 0 ∨ a = 1 ∨ a = 2 ∨ a = 3 ∨ a = 4 ∨ a = 5 ∨ a = 6 ∨ a = 7 by omega) with rfl | rfl | rfl | rfl | rfl | rfl | rfl | rfl <;> rw [hf] <;> simp
theorem ad_naive {post : Int32 → Prop} {x y : Int32} {A : Nat → Nat} (h g : Nat) (h1 : ad_h8 a1 A) (hh : h < 256) (hg : g < 256) (F0 : ad_nav A h g = false → post 0) (F1 : ad_nav A h g = true → post 1) (hx : x = nI h := by rfl) (hy : y = nI g := by rfl) : wpX_isNaive post (f0, f1, f2, a1, a2, a3, a4, a5, a6, a7, a8, a9) x y := by
  subst hx hy
  unfold wpX_isNaive
  dsimp only
  refine ad_attacked h h1 hh (fun ht => ?_)
  refine ek_if (ad_eq0 (ad_and _ _) (ad_and8 ht)) (fun z => ?_) (fun z => F0 ?_)
  · refine loop_0 (σ := Unit) (fun n i _ => wX_isNaive_14 post (nI h) (nI g) f0 f1 f2 a1 a2 a3 a4 a5 a6 a7 a8 a9 n (nI i)) (fun i _ => ∀ a, a < i → ad_nv A h g a = true) 8 () (fun a ha => absurd ha (by omega)) ?_ ?_
    · intro n _ hn
      exact pk_le 8 8 (fun _ => F1 (ad_nav_t z hn)) (fun z => absurd z (by omega))
    · intro n i _ hi hn k
      refine pk_le 8 i (fun z => absurd z (by omega)) (fun _ => ?_)
      refine ad_isIn (ad_cut g h) i (fun hb => nm_r (nI_1 i) (k () (lt_s hn (ad_nv_0 hb)))) (fun hb => nm_r (e' := nI (h ||| 2 ^ i)) (by rw [ad_one32 i hi, ad_or]) ?_) (ad_cut8 hg) hi (ad_nt g h)
      refine ad_attacked (h ||| 2 ^ i) h1 (ad_or8 hh (ad_p8 i hi)) (fun ht2 => ?_)
      exact ek_if (ad_eq0 (ad_and _ _) (ad_and8 ht2)) (fun hc => F0 (ad_nav_f hi (ad_nv_1 hb hc))) (fun hc => nm_r (nI_1 i) (k () (lt_s hn (ad_nv_2 hb hc))))
  · unfold ad_nav
    rw [decide_eq_false z]
    rfl
end
end
section
/-! ===== the methods that write a family: start.., single, findLeast ===== -/
/-- four words at c.. of b are those of X as far as i; the rest is a's -/
def ad_wr (a b : Nat → Int64) (c X i : Nat) : Prop := (∀ w, w < i → b (c + w) = ad_W X w) ∧ (∀ j, (j < c ∨ c + i ≤ j) → b j = a j)
theorem ad_wr0 (a : Nat → Int64) (c X : Nat) : ad_wr a a c X 0 := ⟨fun w h => absurd h (by omega), fun _ _ => rfl⟩
theorem ad_wrs {a b : Nat → Int64} {c X i k : Nat} {x : Int64} (h : ad_wr a b c X i) (hk : k = c + i) (hx : x = ad_W X i) : ad_wr a (vp_updL b k x) c X (i + 1) := by
  subst hk hx
  refine ⟨fun w hw => ?_, fun j hj => ?_⟩
  · by_cases e : w = i
    · rw [e, pk_uLs]
    · rw [pk_uLn (by omega)]
      exact h.1 w (by omega)
  · rw [pk_uLn (by omega)]
    exact h.2 j (by omega)
def ad_up (F : Nat → Nat) (k X : Nat) : Nat → Nat := fun j => if j = k then X else F j
theorem ad_up_s {F : Nat → Nat} {k X : Nat} : ad_up F k X k = X := if_pos rfl
theorem ad_up_n {F : Nat → Nat} {k X j : Nat} (h : j ≠ k) : ad_up F k X j = F j := if_neg h
theorem ad_wr4 {a b : Nat → Int64} {F : Nat → Nat} {k X c : Nat} (h4 : ad_h4 a F) (h : ad_wr a b c X 4) (hc : c = 4 * k) : ad_h4 b (ad_up F k X) := by
  subst hc
  intro k' hk' w hw
  by_cases e : k' = k
  · rw [e, ad_up_s]
    exact h.1 w hw
  · rw [ad_up_n e, h.2 _ (by omega)]
    exact h4 k' hk' w hw
theorem ad_wrw {a b : Nat → Int64} {X : Nat} (h : ad_wr a b 0 X 4) : ad_hw b X := fun w hw => by
  have t := h.1 w hw
  rw [Nat.zero_add] at t
  exact t
theorem ad_set4 {a : Nat → Int64} {F : Nat → Nat} {k r j : Nat} (h : ad_h4 a F) (hr : r < 256) (hj : j = 4 * k + r / 64) (hk : k < 12) : ad_h4 (vp_updL a j (a j ||| ((1 : Int64) <<< ((nI r &&& 63).toInt64 &&& 63)))) (ad_up F k (F k ||| 2 ^ r)) := by
  subst hj
  intro k' hk' w hw
  by_cases e : k' = k
  · rw [e, ad_up_s, ad_Wor, ad_Wp r hr w hw]
    by_cases ew : w = r / 64
    · rw [if_pos ew, ew, pk_uLs, h k hk (r / 64) (by omega)]
    · rw [if_neg ew, pk_uLn (by omega), h k hk w hw, Int64.or_zero]
  · rw [ad_up_n e, pk_uLn (by omega)]
    exact h k' hk' w hw
theorem ad_setw {a : Nat → Int64} {X r j : Nat} (h : ad_hw a X) (hr : r < 256) (hj : j = r / 64) : ad_hw (vp_updL a j (a j ||| ((1 : Int64) <<< ((nI r &&& 63).toInt64 &&& 63)))) (X ||| 2 ^ r) := by
  subst hj
  intro w hw
  rw [ad_Wor, ad_Wp r hr w hw]
  by_cases ew : w = r / 64
  · rw [if_pos ew, ew, pk_uLs, h (r / 64) (by omega)]
  · rw [if_neg ew, pk_uLn ew, h w hw, Int64.or_zero]
theorem ad_free_s {p : Nat} {A : Nat → Nat} {j : Nat} : ad_free p A (j + 1) = ad_cut (ad_free p A j) (ad_H j &&& ad_hit (A j) 8) := rfl
theorem ad_adm_s {B : Nat → Nat} {X j : Nat} : ad_adm B X (j + 1) = ad_adm B X j &&& ((ad_M ^^^ ad_H j) ||| ad_dg B j 8) := rfl
theorem ad_com_t {p X j : Nat} {B : Nat → Nat} (h : p.testBit j = true) : ad_com p B X (j + 1) = ad_com p B X j &&& (ad_H j ||| (ad_M ^^^ ad_dg B j 8)) := if_pos h
theorem ad_com_f {p X j : Nat} {B : Nat → Nat} (h : p.testBit j = false) : ad_com p B X (j + 1) = ad_com p B X j := if_neg (by rw [h]; decide)
theorem ad_sta_t {p X j : Nat} {B : Nat → Nat} (h : p.testBit j = true) : ad_sta p B X (j + 1) = ad_sta p B X j &&& (ad_H j ||| ad_hit (B j) 8) := if_pos h
theorem ad_sta_f {p X j : Nat} {B : Nat → Nat} (h : p.testBit j = false) : ad_sta p B X (j + 1) = ad_sta p B X j := if_neg (by rw [h]; decide)
section
variable {f0 f1 f2 : Int32} {a1 a2 : Nat → Int32} {a3 a4 a5 a6 a7 : Nat → Int64} {a8 a9 : Nat → Int32}
theorem ad_startFree {post : St2 → Prop} {p : Nat} {A F : Nat → Nat} (h1 : ad_h8 a1 A) (h3 : ad_h3 a3) (h4 : ad_h4 a4 F) (hf : f0 = nI p) (H : ∀ b4, ad_h4 b4 (ad_up F 0 (ad_free p A 8)) → post (f0, f1, f2, a1, a2, a3, b4, a5, a6, a7, a8, a9)) : wpX_startFree post (f0, f1, f2, a1, a2, a3, a4, a5, a6, a7, a8, a9) := by
  refine loop_0 (fun n i s => wX_startFree_2 post f0 f1 f2 n (nI i) a1 a2 a3 s a5 a6 a7 a8 a9) (fun i s => ad_wr a4 s 0 (ad_free p A 8) i) 4 a4 (ad_wr0 _ _ _) ?_ ?_
  · intro n s h
    exact pk_le 4 4 (fun _ => H s (ad_wr4 h4 h rfl)) (fun z => absurd z (by omega))
  · intro n i s hi h k
    refine pk_le 4 i (fun z => absurd z (by omega)) (fun _ => ?_)
    refine ad_hitting (ad_cut 255 p) i h3 (ad_cut8 (by decide)) hi (nm_r (ad_Wnot _ hi).symm ?_) (by rw [hf]; exact ad_nt 255 p)
    refine ad_loop (fun m j r => wX_startFree_30 post (wX_startFree_2 post f0 f1 f2 n) (nI i) f0 f1 f2 a1 a2 a3 s a5 a6 a7 a8 a9 m r (nI j)) (fun j => ad_W (ad_free p A j) i) 8 rfl ?_ ?_
    · intro m
      exact pk_le 8 8 (fun _ => ⟨pk_in i 48 (by omega), nm_e (nm_r (nI_1 i) (k _ (ad_wrs h (by rw [ad_cl (by omega), Nat.zero_add]) rfl)))⟩) (fun z => absurd z (by omega))
    · intro m j hj kk
      refine pk_le 8 j (fun z => absurd z (by omega)) (fun _ => ⟨pk_in (4 * j + i) 32 (by omega) (ad_4 j i), pk_in j 8 hj, ?_⟩)
      refine ad_hitting (A j) i h3 (h1 j hj).2 hi (nm_e (nm_r (nI_1 j) (kk _ ?_))) (by rw [ad_cl (by omega)]; exact (h1 j hj).1)
      show _ = ad_W (ad_free p A (j + 1)) i
      rw [ad_4c (by omega) (by omega), h3 j hj i hi, ad_free_s, ad_Wcut, ad_Wand]
theorem ad_startAdm {post : St2 → Prop} {B F : Nat → Nat} (h2 : ad_h8 a2 B) (h3 : ad_h3 a3) (h4 : ad_h4 a4 F) (H : ∀ b4, ad_h4 b4 (ad_up F 1 (ad_adm B (F 0) 8)) → post (f0, f1, f2, a1, a2, a3, b4, a5, a6, a7, a8, a9)) : wpX_startAdmissible post (f0, f1, f2, a1, a2, a3, a4, a5, a6, a7, a8, a9) := by
  refine loop_0 (fun n i s => wX_startAdmissible_2 post f0 f1 f2 n (nI i) a1 a2 a3 s a5 a6 a7 a8 a9) (fun i s => ad_wr a4 s 4 (ad_adm B (F 0) 8) i) 4 a4 (ad_wr0 _ _ _) ?_ ?_
  · intro n s h
    exact pk_le 4 4 (fun _ => H s (ad_wr4 h4 h rfl)) (fun z => absurd z (by omega))
  · intro n i s hi h k
    have e0 : s (nI i).toNatClampNeg = ad_W (F 0) i := by
      rw [ad_cl (by omega), h.2 i (by omega)]
      have t := h4 0 (by decide) i hi
      rw [Nat.mul_zero, Nat.zero_add] at t
      exact t
    refine pk_le 4 i (fun z => absurd z (by omega)) (fun _ => ⟨pk_in i 48 (by omega), nm_r e0 ?_⟩)
    refine ad_loop (fun m j r => wX_startAdmissible_17 post (wX_startAdmissible_2 post f0 f1 f2 n) (nI i) f0 f1 f2 a1 a2 a3 s a5 a6 a7 a8 a9 m r (nI j)) (fun j => ad_W (ad_adm B (F 0) j) i) 8 rfl ?_ ?_
    · intro m
      exact pk_le 8 8 (fun _ => ⟨pk_in (4 + i) 48 (by omega) (nI_add 4 i), nm_e (nm_r (nI_1 i) (k _ (ad_wrs h (pk_cl (4 + i) (nI_add 4 i)) rfl)))⟩) (fun z => absurd z (by omega))
    · intro m j hj kk
      refine pk_le 8 j (fun z => absurd z (by omega)) (fun _ => ⟨pk_in (4 * j + i) 32 (by omega) (ad_4 j i), ?_⟩)
      refine ad_defending j i h2 h3 hj hi (nm_e (nm_r (nI_1 j) (kk _ ?_)))
      show _ = ad_W (ad_adm B (F 0) (j + 1)) i
      rw [ad_4c (by omega) (by omega), h3 j hj i hi, ad_adm_s, ad_Wand, ad_Wor, ad_Wnot _ hi]
theorem ad_startCom {post : St2 → Prop} {p : Nat} {B F : Nat → Nat} (h2 : ad_h8 a2 B) (h3 : ad_h3 a3) (h4 : ad_h4 a4 F) (hp : p < 256) (hf : f0 = nI p) (H : ∀ b4, ad_h4 b4 (ad_up F 2 (ad_com p B (F 1) 8)) → post (f0, f1, f2, a1, a2, a3, b4, a5, a6, a7, a8, a9)) : wpX_startComplete post (f0, f1, f2, a1, a2, a3, a4, a5, a6, a7, a8, a9) := by
  refine loop_0 (fun n i s => wX_startComplete_2 post f0 f1 f2 n (nI i) a1 a2 a3 s a5 a6 a7 a8 a9) (fun i s => ad_wr a4 s 8 (ad_com p B (F 1) 8) i) 4 a4 (ad_wr0 _ _ _) ?_ ?_
  · intro n s h
    exact pk_le 4 4 (fun _ => H s (ad_wr4 h4 h rfl)) (fun z => absurd z (by omega))
  · intro n i s hi h k
    have e0 : s (4 + nI i).toNatClampNeg = ad_W (F 1) i := by
      rw [show (4 + nI i).toNatClampNeg = 4 + i from pk_cl (4 + i) (nI_add 4 i), h.2 (4 + i) (by omega)]
      exact h4 1 (by decide) i hi
    refine pk_le 4 i (fun z => absurd z (by omega)) (fun _ => ⟨pk_in (4 + i) 48 (by omega) (nI_add 4 i), nm_r e0 ?_⟩)
    refine ad_loop (fun m j r => wX_startComplete_19 post (wX_startComplete_2 post f0 f1 f2 n) (nI i) f0 f1 f2 a1 a2 a3 s a5 a6 a7 a8 a9 m r (nI j)) (fun j => ad_W (ad_com p B (F 1) j) i) 8 rfl ?_ ?_
    · intro m
      exact pk_le 8 8 (fun _ => ⟨pk_in (8 + i) 48 (by omega) (nI_add 8 i), nm_e (nm_r (nI_1 i) (k _ (ad_wrs h (pk_cl (8 + i) (nI_add 8 i)) rfl)))⟩) (fun z => absurd z (by omega))
    · intro m j hj kk
      refine pk_le 8 j (fun z => absurd z (by omega)) (fun _ => ?_)
      refine ad_isIn p j (fun hb => nm_r (nI_1 j) (kk _ (congrArg (fun z => ad_W z i) (ad_com_f hb).symm))) (fun hb => ⟨pk_in (4 * j + i) 32 (by omega) (ad_4 j i), ?_⟩) hp hj hf
      refine ad_defending j i h2 h3 hj hi (nm_e (nm_r (nI_1 j) (kk _ ?_)))
      show _ = ad_W (ad_com p B (F 1) (j + 1)) i
      rw [ad_4c (by omega) (by omega), h3 j hj i hi, ad_com_t hb, ad_Wand, ad_Wor, ad_Wnot _ hi]
theorem ad_startSta {post : St2 → Prop} {p : Nat} {B F : Nat → Nat} (h2 : ad_h8 a2 B) (h3 : ad_h3 a3) (h4 : ad_h4 a4 F) (hp : p < 256) (hf : f0 = nI p) (H : ∀ b4, ad_h4 b4 (ad_up F 5 (ad_sta p B (F 0) 8)) → post (f0, f1, f2, a1, a2, a3, b4, a5, a6, a7, a8, a9)) : wpX_startStable post (f0, f1, f2, a1, a2, a3, a4, a5, a6, a7, a8, a9) := by
  refine loop_0 (fun n i s => wX_startStable_2 post f0 f1 f2 n (nI i) a1 a2 a3 s a5 a6 a7 a8 a9) (fun i s => ad_wr a4 s 20 (ad_sta p B (F 0) 8) i) 4 a4 (ad_wr0 _ _ _) ?_ ?_
  · intro n s h
    exact pk_le 4 4 (fun _ => H s (ad_wr4 h4 h rfl)) (fun z => absurd z (by omega))
  · intro n i s hi h k
    have e0 : s (nI i).toNatClampNeg = ad_W (F 0) i := by
      rw [ad_cl (by omega), h.2 i (by omega)]
      have t := h4 0 (by decide) i hi
      rw [Nat.mul_zero, Nat.zero_add] at t
      exact t
    refine pk_le 4 i (fun z => absurd z (by omega)) (fun _ => ⟨pk_in i 48 (by omega), nm_r e0 ?_⟩)
    refine ad_loop (fun m j r => wX_startStable_17 post (wX_startStable_2 post f0 f1 f2 n) (nI i) f0 f1 f2 a1 a2 a3 s a5 a6 a7 a8 a9 m r (nI j)) (fun j => ad_W (ad_sta p B (F 0) j) i) 8 rfl ?_ ?_
    · intro m
      exact pk_le 8 8 (fun _ => ⟨pk_in (20 + i) 48 (by omega) (nI_add 20 i), nm_e (nm_r (nI_1 i) (k _ (ad_wrs h (pk_cl (20 + i) (nI_add 20 i)) rfl)))⟩) (fun z => absurd z (by omega))
    · intro m j hj kk
      refine pk_le 8 j (fun z => absurd z (by omega)) (fun _ => ?_)
      refine ad_isIn p j (fun hb => nm_r (nI_1 j) (kk _ (congrArg (fun z => ad_W z i) (ad_sta_f hb).symm))) (fun hb => ⟨pk_in (4 * j + i) 32 (by omega) (ad_4 j i), pk_in j 8 hj, ?_⟩) hp hj hf
      refine ad_hitting (B j) i h3 (h2 j hj).2 hi (nm_e (nm_r (nI_1 j) (kk _ ?_))) (by rw [ad_cl (by omega)]; exact (h2 j hj).1)
      show _ = ad_W (ad_sta p B (F 0) (j + 1)) i
      rw [ad_4c (by omega) (by omega), h3 j hj i hi, ad_sta_t hb, ad_Wand, ad_Wor]
theorem ad_single {post : St2 → Prop} {x y : Int32} {F : Nat → Nat} (k s : Nat) (h4 : ad_h4 a4 F) (hk : k < 12) (hs : s < 256) (H : ∀ b4, ad_h4 b4 (ad_up F k (2 ^ s)) → post (f0, f1, f2, a1, a2, a3, b4, a5, a6, a7, a8, a9)) (hx : x = nI k := by rfl) (hy : y = nI s := by rfl) : wpX_single post (f0, f1, f2, a1, a2, a3, a4, a5, a6, a7, a8, a9) x y := by
  subst hx hy
  refine loop_0 (fun n i t => wX_single_2 post (nI k) (nI s) f0 f1 f2 n (nI i) a1 a2 a3 t a5 a6 a7 a8 a9) (fun i t => ad_wr a4 t (4 * k) (2 ^ s) i) 4 a4 (ad_wr0 _ _ _) ?_ ?_
  · intro n t h
    exact pk_le 4 4 (fun _ => H t (ad_wr4 h4 h rfl)) (fun z => absurd z (by omega))
  · intro n i t hi h kk
    refine pk_le 4 i (fun z => absurd z (by omega)) (fun _ => ?_)
    refine pk_eq i (s / 64) (fun e => ⟨pk_in (4 * k + i) 48 (by omega) (ad_4 k i), nm_e (nm_r (nI_1 i) (kk _ (ad_wrs h (ad_4c (by omega) (by omega)) ?_)))⟩) (fun e => ⟨pk_in (4 * k + i) 48 (by omega) (ad_4 k i), nm_e (nm_r (nI_1 i) (kk _ (ad_wrs h (ad_4c (by omega) (by omega)) ?_)))⟩) rfl (ad_6 hs)
    · rw [ad_Wp s hs i hi, if_pos e]
    · rw [ad_Wp s hs i hi, if_neg e]
theorem ad_lst_s {p : Nat} {A B : Nat → Nat} {i : Nat} : ad_lst p A B (i + 1) = ad_dfd p B (ad_att A (ad_lst p A B i) 8) 8 := rfl
theorem ad_lst8 {p : Nat} {A B : Nat → Nat} (i : Nat) : ad_lst p A B i < 256 := by
  cases i with
  | zero => exact (by decide : 0 < 256)
  | succ i => rw [ad_lst_s]; exact ad_dfd8 8 (Nat.le_refl 8)
theorem ad_findLeast {post : St2 → Prop} {p : Nat} {A B F : Nat → Nat} (h1 : ad_h8 a1 A) (h2 : ad_h8 a2 B) (h4 : ad_h4 a4 F) (hp : p < 256) (hf : f0 = nI p) (H : ∀ b4, ad_h4 b4 (ad_up F 3 (2 ^ ad_lst p A B 8)) → post (f0, f1, f2, a1, a2, a3, b4, a5, a6, a7, a8, a9)) : wpX_findLeast post (f0, f1, f2, a1, a2, a3, a4, a5, a6, a7, a8, a9) := by
  refine ad_loop (fun n i r => wX_findLeast_4 post f0 f1 f2 a1 a2 a3 a4 a5 a6 a7 a8 a9 n r (nI i)) (fun i => nI (ad_lst p A B i)) 8 rfl ?_ ?_
  · intro n
    exact pk_le 8 8 (fun _ => ad_single 3 (ad_lst p A B 8) h4 (by decide) (ad_lst8 8) H) (fun z => absurd z (by omega))
  · intro n i hi k
    refine pk_le 8 i (fun z => absurd z (by omega)) (fun _ => ?_)
    exact ad_defended (ad_lst p A B i) h1 h2 hp hf (ad_lst8 i) (nm_r (nI_1 i) (k _ rfl))
end
end
section
/-! ===== keepGreatest, takeGreatest, takeWidest, takeWithin ===== -/
theorem ad_up_up {F : Nat → Nat} {k X Y : Nat} : ad_up (ad_up F k X) k Y = ad_up F k Y := by
  funext j
  by_cases e : j = k
  · rw [e, ad_up_s, ad_up_s]
  · rw [ad_up_n e, ad_up_n e, ad_up_n e]
theorem ad_set4' {a : Nat → Int64} {F : Nat → Nat} {k r j X Y : Nat} (h : ad_h4 a (ad_up F k X)) (hr : r < 256) (hj : j = 4 * k + r / 64) (hk : k < 12) (hY : Y = X ||| 2 ^ r) : ad_h4 (vp_updL a j (a j ||| ((1 : Int64) <<< ((nI r &&& 63).toInt64 &&& 63)))) (ad_up F k Y) := by
  have t := ad_set4 h hr hj hk
  rw [ad_up_s, ad_up_up, ← hY] at t
  exact t
theorem ad_wi1_t {A : Nat → Nat} {F i : Nat} (h : F.testBit i = true) : ad_wi1 A F (i + 1) = ad_wi1 A F i ||| 2 ^ ad_rch A i := if_pos h
theorem ad_wi1_f {A : Nat → Nat} {F i : Nat} (h : F.testBit i = false) : ad_wi1 A F (i + 1) = ad_wi1 A F i := if_neg (by rw [h]; decide)
theorem ad_wi2_0 {A : Nat → Nat} {F R i : Nat} (h : F.testBit i = false) : ad_wi2 A F R (i + 1) = ad_wi2 A F R i := if_neg (by rw [h]; decide)
theorem ad_wi2_1 {A : Nat → Nat} {F R i : Nat} (h : F.testBit i = true) (h2 : R.testBit (ad_rch A i) = false) : ad_wi2 A F R (i + 1) = ad_wi2 A F R i := Eq.trans (if_pos h) (if_neg (by rw [h2]; decide))
theorem ad_wi2_2 {A : Nat → Nat} {F R i : Nat} (h : F.testBit i = true) (h2 : R.testBit (ad_rch A i) = true) : ad_wi2 A F R (i + 1) = ad_wi2 A F R i ||| 2 ^ i := Eq.trans (if_pos h) (if_pos h2)
section
variable {f0 f1 f2 : Int32} {a1 a2 : Nat → Int32} {a3 a4 a5 a6 a7 : Nat → Int64} {a8 a9 : Nat → Int32}
theorem ad_kg69 {post : St2 → Prop} {O X : Nat} (h3 : ad_h3 a3) (h6 : ad_hw a6 O) (h5 : ad_hw a5 X) (H : ∀ b5, ad_hw b5 (ad_kp O X 8) → post (f0, f1, f2, a1, a2, a3, a4, b5, a6, a7, a8, a9)) : ∃ n, wX_keepGreatest_69 post f0 f1 f2 n 0 a1 a2 a3 a4 a5 a6 a7 a8 a9 := by
  refine loop_0 (fun n i s => wX_keepGreatest_69 post f0 f1 f2 n (nI i) a1 a2 a3 a4 s a6 a7 a8 a9) (fun i s => (∀ v, v < i → s v = ad_W (ad_kp O X 8) v) ∧ (∀ v, i ≤ v → v < 4 → s v = ad_W X v)) 4 a5 ⟨fun v h => absurd h (by omega), fun v _ h => h5 v h⟩ ?_ ?_
  · intro n s h
    exact pk_le 4 4 (fun _ => H s h.1) (fun z => absurd z (by omega))
  · intro n i s hi h k
    refine pk_le 4 i (fun z => absurd z (by omega)) (fun _ => ?_)
    refine loop_0 (fun m j t => wX_keepGreatest_76 post (wX_keepGreatest_69 post f0 f1 f2 n) (nI i) f0 f1 f2 m (nI j) a1 a2 a3 a4 t a6 a7 a8 a9) (fun j t => (∀ v, v < i → t v = ad_W (ad_kp O X 8) v) ∧ t i = ad_W (ad_kp O X j) i ∧ (∀ v, i < v → v < 4 → t v = ad_W X v)) 8 s ⟨h.1, h.2 i (Nat.le_refl i) hi, fun v hv => h.2 v (by omega)⟩ ?_ ?_
    · intro m t ht
      refine pk_le 8 8 (fun _ => nm_r (nI_1 i) (k t ⟨fun v hv => ?_, fun v hv => ht.2.2 v (by omega)⟩)) (fun z => absurd z (by omega))
      by_cases e : v = i
      · rw [e]
        exact ht.2.1
      · exact ht.1 v (by omega)
    · intro m j t hj ht kk
      refine pk_le 8 j (fun z => absurd z (by omega)) (fun _ => ⟨pk_in i 4 hi, ?_⟩)
      refine ad_below j i h3 (fun v _ hv => h6 v hv) hj hi ⟨pk_in i 4 hi, nm_e (nm_r (nI_1 j) (kk _ ⟨fun v hv => ?_, ?_, fun v hv hv4 => ?_⟩))⟩
      · rw [ad_cl (by omega), pk_uLn (by omega)]
        exact ht.1 v hv
      · rw [ad_cl (by omega), pk_uLs, ht.2.1, ← ad_Wcut]
        rfl
      · rw [ad_cl (by omega), pk_uLn (by omega)]
        exact ht.2.2 v hv hv4
theorem ad_kg27 {post : St2 → Prop} {X : Nat} (h3 : ad_h3 a3) (h5 : ad_hw a5 X) (h6 : ad_hw a6 X) (H : ∀ b5 b6, ad_hw b5 (ad_keep X) → post (f0, f1, f2, a1, a2, a3, a4, b5, b6, a7, a8, a9)) : ∃ n, wX_keepGreatest_27 post f0 f1 f2 n 0 a1 a2 a3 a4 a5 a6 a7 a8 a9 := by
  refine loop_0 (fun n i s => wX_keepGreatest_27 post f0 f1 f2 n (nI i) a1 a2 a3 a4 a5 s a7 a8 a9) (fun i s => ad_hw s (ad_spr X i)) 8 a6 h6 ?_ ?_
  · intro n s h
    exact pk_le 8 8 (fun _ => ad_kg69 h3 h h5 (fun b5 hb => H b5 s hb)) (fun z => absurd z (by omega))
  · intro n i s hi h k
    refine pk_le 8 i (fun z => absurd z (by omega)) (fun _ => ?_)
    refine loop_0 (fun m j t => wX_keepGreatest_35 post (wX_keepGreatest_27 post f0 f1 f2 n) (nI i) f0 f1 f2 m (nI j) a1 a2 a3 a4 a5 t a7 a8 a9) (fun j t => (∀ v, v < j → t v = ad_W (ad_spr X (i + 1)) v) ∧ (∀ v, j ≤ v → v < 4 → t v = ad_W (ad_spr X i) v)) 4 s ⟨fun v hv => absurd hv (by omega), fun v _ hv => h v hv⟩ ?_ ?_
    · intro m t ht
      exact pk_le 4 4 (fun _ => nm_r (nI_1 i) (k t ht.1)) (fun z => absurd z (by omega))
    · intro m j t hj ht kk
      refine pk_le 4 j (fun z => absurd z (by omega)) (fun _ => ⟨pk_in j 4 hj, ?_⟩)
      refine ad_below i j h3 ht.2 hi hj ⟨pk_in j 4 hj, nm_e (nm_r (nI_1 j) (kk _ ⟨fun v hv => ?_, fun v hv hv4 => ?_⟩))⟩
      · rw [ad_cl (by omega)]
        by_cases e : v = j
        · rw [e, pk_uLs, ht.2 j (Nat.le_refl j) hj, ← ad_Wor]
          rfl
        · rw [pk_uLn e]
          exact ht.1 v (by omega)
      · rw [ad_cl (by omega), pk_uLn (by omega)]
        exact ht.2 v (by omega) hv4
theorem ad_keepG {post : St2 → Prop} {X : Nat} (h3 : ad_h3 a3) (h5 : ad_hw a5 X) (H : ∀ b5 b6, ad_hw b5 (ad_keep X) → post (f0, f1, f2, a1, a2, a3, a4, b5, b6, a7, a8, a9)) : wpX_keepGreatest post (f0, f1, f2, a1, a2, a3, a4, a5, a6, a7, a8, a9) := by
  refine loop_0 (fun n i s => wX_keepGreatest_2 post f0 f1 f2 n (nI i) a1 a2 a3 a4 a5 s a7 a8 a9) (fun i s => ad_wr a6 s 0 X i) 4 a6 (ad_wr0 _ _ _) ?_ ?_
  · intro n s h
    exact pk_le 4 4 (fun _ => ad_kg27 h3 h5 (ad_wrw h) H) (fun z => absurd z (by omega))
  · intro n i s hi h k
    exact pk_le 4 i (fun z => absurd z (by omega)) (fun _ => ⟨pk_in i 4 hi, pk_in i 4 hi, nm_e (nm_r (nI_1 i) (k _ (ad_wrs h (by rw [ad_cl (by omega), Nat.zero_add]) (by rw [ad_cl (by omega)]; exact h5 i hi))))⟩)
theorem ad_gr33 {post : St2 → Prop} {F : Nat → Nat} {k X : Nat} (h4 : ad_h4 a4 F) (h5 : ad_hw a5 X) (hk : k < 12) (H : ∀ b4, ad_h4 b4 (ad_up F k X) → post (f0, f1, f2, a1, a2, a3, b4, a5, a6, a7, a8, a9)) : ∃ n, wX_greatestOf_33 post (nI (4 * k)) f0 f1 f2 n 0 a1 a2 a3 a4 a5 a6 a7 a8 a9 := by
  refine loop_0 (fun n i s => wX_greatestOf_33 post (nI (4 * k)) f0 f1 f2 n (nI i) a1 a2 a3 s a5 a6 a7 a8 a9) (fun i s => ad_wr a4 s (4 * k) X i) 4 a4 (ad_wr0 _ _ _) ?_ ?_
  · intro n s h
    exact pk_le 4 4 (fun _ => H s (ad_wr4 h4 h rfl)) (fun z => absurd z (by omega))
  · intro n i s hi h kk
    exact pk_le 4 i (fun z => absurd z (by omega)) (fun _ => ⟨pk_in i 4 hi, pk_in (4 * k + i) 48 (by omega) (nI_add _ _), nm_e (nm_r (nI_1 i) (kk _ (ad_wrs h (pk_cl (4 * k + i) (nI_add _ _)) (by rw [ad_cl (by omega)]; exact h5 i hi))))⟩)
theorem ad_greatestOf {post : St2 → Prop} {x y : Int32} {F : Nat → Nat} (k m : Nat) (h3 : ad_h3 a3) (h4 : ad_h4 a4 F) (hk : k < 12) (hm : m < 12) (H : ∀ b4 b5 b6, ad_h4 b4 (ad_up F k (ad_keep (F m))) → post (f0, f1, f2, a1, a2, a3, b4, b5, b6, a7, a8, a9)) (hx : x = nI (4 * m)) (hy : y = nI (4 * k)) : wpX_greatestOf post (f0, f1, f2, a1, a2, a3, a4, a5, a6, a7, a8, a9) x y := by
  subst hx hy
  refine loop_0 (fun n i s => wX_greatestOf_2 post (nI (4 * m)) (nI (4 * k)) f0 f1 f2 n (nI i) a1 a2 a3 a4 s a6 a7 a8 a9) (fun i s => ad_wr a5 s 0 (F m) i) 4 a5 (ad_wr0 _ _ _) ?_ ?_
  · intro n s h
    refine pk_le 4 4 (fun _ => ?_) (fun z => absurd z (by omega))
    exact ad_keepG h3 (ad_wrw h) (fun b5 b6 h5 => ad_gr33 h4 h5 hk (fun b4 h4' => H b4 b5 b6 h4'))
  · intro n i s hi h kk
    exact pk_le 4 i (fun z => absurd z (by omega)) (fun _ => ⟨pk_in (4 * m + i) 48 (by omega) (nI_add _ _), pk_in i 4 hi, nm_e (nm_r (nI_1 i) (kk _ (ad_wrs h (by rw [ad_cl (by omega), Nat.zero_add]) (by rw [pk_cl (4 * m + i) (nI_add _ _)]; exact h4 m hm i hi))))⟩)
theorem ad_takeG {post : St2 → Prop} {x y : Int32} {F : Nat → Nat} (k m : Nat) (h3 : ad_h3 a3) (h4 : ad_h4 a4 F) (hk : k < 12) (hm : m < 12) (H : ∀ b4 b5 b6, ad_h4 b4 (ad_up F k (ad_keep (F m))) → post (f0, f1, f2, a1, a2, a3, b4, b5, b6, a7, a8, a9)) (hx : x = nI k := by rfl) (hy : y = nI m := by rfl) : wpX_takeGreatest post (f0, f1, f2, a1, a2, a3, a4, a5, a6, a7, a8, a9) x y := by
  subst hx hy
  unfold wpX_takeGreatest
  exact ad_greatestOf k m h3 h4 hk hm H (pk_mul 4 m) (pk_mul 4 k)
theorem ad_tw116 {post : St2 → Prop} {A F : Nat → Nat} {k m R : Nat} (h1 : ad_h8 a1 A) (h4 : ad_h4 a4 (ad_up F k 0)) (h7 : ad_hw a7 R) (hk : k < 12) (hm : m < 12) (hkm : m ≠ k) (H : ∀ b4, ad_h4 b4 (ad_up F k (ad_wi2 A (F m) R 256)) → post (f0, f1, f2, a1, a2, a3, b4, a5, a6, a7, a8, a9)) : ∃ n, wX_takeWidest_116 post (nI k) (nI m) f0 f1 f2 n 0 a1 a2 a3 a4 a5 a6 a7 a8 a9 := by
  refine loop_0 (fun n i s => wX_takeWidest_116 post (nI k) (nI m) f0 f1 f2 n (nI i) a1 a2 a3 s a5 a6 a7 a8 a9) (fun i s => ad_h4 s (ad_up F k (ad_wi2 A (F m) R i))) 256 a4 h4 ?_ ?_
  · intro n s h
    exact pk_le 256 256 (fun _ => H s h) (fun z => absurd z (by omega))
  · intro n i s hi h kk
    refine pk_le 256 i (fun z => absurd z (by omega)) (fun _ => ?_)
    refine ad_inFam m i h hm hi (fun hb => nm_r (nI_1 i) (kk _ ?_)) (fun hb => ?_)
    · rw [ad_up_n hkm] at hb
      rw [ad_wi2_0 hb]
      exact h
    · rw [ad_up_n hkm] at hb
      refine ad_reach i h1 hi (fun hr => ?_)
      rw [ad_6 hr]
      refine ⟨pk_in (ad_rch A i / 64) 4 (by omega), ?_⟩
      rw [ad_cl (by omega), h7 (ad_rch A i / 64) (by omega)]
      refine ek_if (ad_tbW hr rfl) (fun hc => nm_r (nI_1 i) (kk _ ?_)) (fun hc => ?_)
      · rw [ad_wi2_1 hb hc]
        exact h
      · rw [ad_6 hi]
        refine ⟨pk_in (4 * k + i / 64) 48 (by omega) (ad_4 k (i / 64)), pk_in (4 * k + i / 64) 48 (by omega) (ad_4 k (i / 64)), nm_e (nm_r (nI_1 i) (kk _ ?_))⟩
        exact ad_set4' h hi (ad_4c (by omega) (by omega)) hk (ad_wi2_2 hb (by simpa using hc))
theorem ad_tw80 {post : St2 → Prop} {A F : Nat → Nat} {k m R : Nat} (h1 : ad_h8 a1 A) (h4 : ad_h4 a4 F) (h5 : ad_hw a5 R) (hk : k < 12) (hm : m < 12) (hkm : m ≠ k) (H : ∀ b4 b7, ad_h4 b4 (ad_up F k (ad_wi2 A (F m) R 256)) → post (f0, f1, f2, a1, a2, a3, b4, a5, a6, b7, a8, a9)) : ∃ n, wX_takeWidest_80 post (nI k) (nI m) f0 f1 f2 n 0 a1 a2 a3 a4 a5 a6 a7 a8 a9 := by
  refine loop_0 (fun n i s => wX_takeWidest_80 post (nI k) (nI m) f0 f1 f2 n (nI i) a1 a2 a3 s.1 a5 a6 s.2 a8 a9) (fun i s => ad_wr a4 s.1 (4 * k) 0 i ∧ ad_wr a7 s.2 0 R i) 4 (a4, a7) ⟨ad_wr0 _ _ _, ad_wr0 _ _ _⟩ ?_ ?_
  · intro n s h
    exact pk_le 4 4 (fun _ => ad_tw116 h1 (ad_wr4 h4 h.1 rfl) (ad_wrw h.2) hk hm hkm (fun b4 hb => H b4 s.2 hb)) (fun z => absurd z (by omega))
  · intro n i s hi h kk
    refine pk_le 4 i (fun z => absurd z (by omega)) (fun _ => ⟨pk_in i 4 hi, pk_in i 4 hi, nm_e ⟨pk_in (4 * k + i) 48 (by omega) (ad_4 k i), nm_e (nm_r (nI_1 i) (kk (_, _) ⟨?_, ?_⟩))⟩⟩)
    · exact ad_wrs h.1 (ad_4c (by omega) (by omega)) (ad_W0 i).symm
    · exact ad_wrs h.2 (by rw [ad_cl (by omega), Nat.zero_add]) (by rw [ad_cl (by omega)]; exact h5 i hi)
theorem ad_tw22 {post : St2 → Prop} {A F : Nat → Nat} {k m : Nat} (h1 : ad_h8 a1 A) (h3 : ad_h3 a3) (h4 : ad_h4 a4 F) (h5 : ad_hw a5 0) (hk : k < 12) (hm : m < 12) (hkm : m ≠ k) (H : ∀ b4 b5 b6 b7, ad_h4 b4 (ad_up F k (ad_wid A (F m))) → post (f0, f1, f2, a1, a2, a3, b4, b5, b6, b7, a8, a9)) : ∃ n, wX_takeWidest_22 post (nI k) (nI m) f0 f1 f2 n 0 a1 a2 a3 a4 a5 a6 a7 a8 a9 := by
  refine loop_0 (fun n i s => wX_takeWidest_22 post (nI k) (nI m) f0 f1 f2 n (nI i) a1 a2 a3 a4 s a6 a7 a8 a9) (fun i s => ad_hw s (ad_wi1 A (F m) i)) 256 a5 h5 ?_ ?_
  · intro n s h
    refine pk_le 256 256 (fun _ => ?_) (fun z => absurd z (by omega))
    exact ad_keepG h3 h (fun b5 b6 hb => ad_tw80 h1 h4 hb hk hm hkm (fun b4 b7 h4' => H b4 b5 b6 b7 h4'))
  · intro n i s hi h kk
    refine pk_le 256 i (fun z => absurd z (by omega)) (fun _ => ?_)
    refine ad_inFam m i h4 hm hi (fun hb => nm_r (nI_1 i) (kk _ ?_)) (fun hb => ?_)
    · rw [ad_wi1_f hb]
      exact h
    · refine ad_reach i h1 hi (fun hr => ?_)
      rw [ad_6 hr]
      refine ⟨pk_in (ad_rch A i / 64) 4 (by omega), pk_in (ad_rch A i / 64) 4 (by omega), nm_e (nm_r (nI_1 i) (kk _ ?_))⟩
      rw [ad_wi1_t hb]
      exact ad_setw h hr (ad_cl (by omega))
theorem ad_takeW {post : St2 → Prop} {x y : Int32} {A F : Nat → Nat} (k m : Nat) (h1 : ad_h8 a1 A) (h3 : ad_h3 a3) (h4 : ad_h4 a4 F) (hk : k < 12) (hm : m < 12) (hkm : m ≠ k) (H : ∀ b4 b5 b6 b7, ad_h4 b4 (ad_up F k (ad_wid A (F m))) → post (f0, f1, f2, a1, a2, a3, b4, b5, b6, b7, a8, a9)) (hx : x = nI k := by rfl) (hy : y = nI m := by rfl) : wpX_takeWidest post (f0, f1, f2, a1, a2, a3, a4, a5, a6, a7, a8, a9) x y := by
  subst hx hy
  refine loop_0 (fun n i s => wX_takeWidest_2 post (nI k) (nI m) f0 f1 f2 n (nI i) a1 a2 a3 a4 s a6 a7 a8 a9) (fun i s => ad_wr a5 s 0 0 i) 4 a5 (ad_wr0 _ _ _) ?_ ?_
  · intro n s h
    exact pk_le 4 4 (fun _ => ad_tw22 h1 h3 h4 (ad_wrw h) hk hm hkm H) (fun z => absurd z (by omega))
  · intro n i s hi h kk
    exact pk_le 4 i (fun z => absurd z (by omega)) (fun _ => ⟨pk_in i 4 hi, nm_e (nm_r (nI_1 i) (kk _ (ad_wrs h (by rw [ad_cl (by omega), Nat.zero_add]) (ad_W0 i).symm)))⟩)
theorem ad_ti62 {post : St2 → Prop} {F : Nat → Nat} {k X : Nat} (h4 : ad_h4 a4 F) (h5 : ad_hw a5 X) (hk : k < 12) (H : ∀ b4, ad_h4 b4 (ad_up F k X) → post (f0, f1, f2, a1, a2, a3, b4, a5, a6, a7, a8, a9)) : ∃ n, wX_takeWithin_62 post (nI k) f0 f1 f2 n 0 a1 a2 a3 a4 a5 a6 a7 a8 a9 := by
  refine loop_0 (fun n i s => wX_takeWithin_62 post (nI k) f0 f1 f2 n (nI i) a1 a2 a3 s a5 a6 a7 a8 a9) (fun i s => ad_wr a4 s (4 * k) X i) 4 a4 (ad_wr0 _ _ _) ?_ ?_
  · intro n s h
    exact pk_le 4 4 (fun _ => H s (ad_wr4 h4 h rfl)) (fun z => absurd z (by omega))
  · intro n i s hi h kk
    exact pk_le 4 i (fun z => absurd z (by omega)) (fun _ => ⟨pk_in i 4 hi, pk_in (4 * k + i) 48 (by omega) (ad_4 k i), nm_e (nm_r (nI_1 i) (kk _ (ad_wrs h (ad_4c (by omega) (by omega)) (by rw [ad_cl (by omega)]; exact h5 i hi))))⟩)
theorem ad_takeI {post : St2 → Prop} {x y : Int32} {F : Nat → Nat} {p : Nat} (k m : Nat) (h3 : ad_h3 a3) (h4 : ad_h4 a4 F) (hp : p < 256) (hf : f0 = nI p) (hk : k < 12) (hm : m < 12) (H : ∀ b4 b5 b6, ad_h4 b4 (ad_up F k (ad_wit (F 1) (ad_cmn p (F m) 8))) → post (f0, f1, f2, a1, a2, a3, b4, b5, b6, a7, a8, a9)) (hx : x = nI k := by rfl) (hy : y = nI m := by rfl) : wpX_takeWithin post (f0, f1, f2, a1, a2, a3, a4, a5, a6, a7, a8, a9) x y := by
  subst hx hy
  unfold wpX_takeWithin
  dsimp only
  refine ad_common m h3 h4 hf hm ?_
  refine loop_0 (fun n i s => wX_takeWithin_9 post (nI k) (nI (ad_cmn p (F m) 8)) f0 f1 f2 n (nI i) a1 a2 a3 a4 s a6 a7 a8 a9) (fun i s => ad_wr a5 s 0 (ad_cut (F 1) (ad_hit (ad_cut 255 (ad_cmn p (F m) 8)) 8)) i) 4 a5 (ad_wr0 _ _ _) ?_ ?_
  · intro n s h
    refine pk_le 4 4 (fun _ => ?_) (fun z => absurd z (by omega))
    exact ad_keepG h3 (ad_wrw h) (fun b5 b6 hb => ad_ti62 h4 hb hk (fun b4 h4' => H b4 b5 b6 h4'))
  · intro n i s hi h kk
    refine pk_le 4 i (fun z => absurd z (by omega)) (fun _ => ⟨pk_in (4 + i) 48 (by omega) (nI_add 4 i), ?_⟩)
    refine ad_hitting (ad_cut 255 (ad_cmn p (F m) 8)) i h3 (ad_cut8 (by decide)) hi ⟨pk_in i 4 hi, nm_e (nm_r (nI_1 i) (kk _ (ad_wrs h (by rw [ad_cl (by omega), Nat.zero_add]) ?_)))⟩ (ad_nt 255 _)
    rw [show (4 + nI i).toNatClampNeg = 4 + i from pk_cl (4 + i) (nI_add 4 i), ad_Wcut]
    exact congrArg (fun z => z &&& _) (h4 1 (by decide) i hi)
end
end
section
/-! ===== findWays, fitsParts, findParts ===== -/
theorem ad_byb (X j t : Nat) : (ad_by X j).testBit t = (decide (t < 8) && X.testBit (8 * j + t)) := by
  unfold ad_by
  rw [show (256 : Nat) = 2 ^ 8 from rfl, Nat.testBit_mod_two_pow, Nat.testBit_shiftRight]
theorem ad_tb8 {v t : Nat} (hv : v < 256) (ht : 8 ≤ t) : v.testBit t = false := Nat.testBit_lt_two_pow (Nat.lt_of_lt_of_le (show v < 2 ^ 8 from hv) (Nat.pow_le_pow_right (by decide) ht))
theorem ad_by_or {X v i : Nat} (hv : v < 256) (j : Nat) : ad_by (X ||| v <<< (8 * i)) j = if j = i then ad_by X j ||| v else ad_by X j := by
  apply Nat.eq_of_testBit_eq
  intro t
  rw [ad_byb, Nat.testBit_or, Nat.testBit_shiftLeft]
  by_cases e : j = i
  · subst e
    rw [if_pos rfl, Nat.testBit_or, ad_byb]
    by_cases ht : t < 8
    · rw [decide_eq_true ht, decide_eq_true (show 8 * j + t ≥ 8 * j by omega), Nat.add_sub_cancel_left]
      simp
    · rw [decide_eq_false ht, ad_tb8 (t := t) hv (by omega)]
      simp
  · rw [if_neg e, ad_byb]
    by_cases ht : t < 8
    · rcases Nat.lt_or_gt_of_ne e with h | h
      · rw [decide_eq_false (show ¬ (8 * j + t ≥ 8 * i) by omega)]
        simp
      · rw [ad_tb8 (t := 8 * j + t - 8 * i) hv (by omega)]
        simp
    · rw [decide_eq_false ht]
      simp
theorem ad_wy0_t {A : Nat → Nat} {g i : Nat} (h : g.testBit i = true) : ad_wy0 A g (i + 1) = ad_wy0 A g i ||| (((A i &&& g) ||| 2 ^ i) <<< (8 * i)) := if_pos h
theorem ad_wy0_f {A : Nat → Nat} {g i : Nat} (h : g.testBit i = false) : ad_wy0 A g (i + 1) = ad_wy0 A g i := if_neg (by rw [h]; decide)
theorem ad_wy1_t {c X i : Nat} (h : (ad_by (ad_wy1 c X i) i).testBit c = true) : ad_wy1 c X (i + 1) = ad_wy1 c X i ||| (ad_by (ad_wy1 c X i) c <<< (8 * i)) := if_pos h
theorem ad_wy1_f {c X i : Nat} (h : (ad_by (ad_wy1 c X i) i).testBit c = false) : ad_wy1 c X (i + 1) = ad_wy1 c X i := if_neg (fun z => absurd (h.symm.trans z) (by decide))
/-- a stack of groups: the top behind the others -/
def ad_stk : List Nat → (Nat → Int32) → Prop
  | [], _ => True
  | g :: t, a => a t.length = nI g ∧ g < 256 ∧ ad_stk t a
theorem ad_stk_u {t : List Nat} {a : Nat → Int32} {k : Nat} {x : Int32} (h : ad_stk t a) (hk : t.length ≤ k) : ad_stk t (upd a k x) := by
  induction t with
  | nil => trivial
  | cons g t ih =>
    have hk' : t.length + 1 ≤ k := hk
    exact ⟨by rw [pk_un (by omega)]; exact h.1, h.2.1, ih h.2.2 (by omega)⟩
def ad_bi : Bool → Int32
  | true => 1
  | false => 0
theorem ad_prs_0 {A : Nat → Nat} {p F i : Nat} (h : F.testBit i = false) : ad_prs A p F (i + 1) = ad_prs A p F i := if_neg (by rw [h]; decide)
theorem ad_prs_1 {A : Nat → Nat} {p F i : Nat} (h : F.testBit i = true) (h2 : ad_fit A i 12 [p] = some false) : ad_prs A p F (i + 1) = ad_prs A p F i := Eq.trans (if_pos h) (if_neg (by rw [h2]; decide))
theorem ad_prs_2 {A : Nat → Nat} {p F i : Nat} (h : F.testBit i = true) (h2 : ad_fit A i 12 [p] = some true) : ad_prs A p F (i + 1) = ad_prs A p F i ||| 2 ^ i := Eq.trans (if_pos h) (if_pos h2)
section
variable {f0 f1 f2 : Int32} {a1 a2 : Nat → Int32} {a3 a4 a5 a6 a7 : Nat → Int64} {a8 a9 : Nat → Int32}
theorem ad_fw48 {post : St2 → Prop} {X : Nat} (h9 : ad_h9 a9 X) (H : ∀ b9, ad_h9 b9 (ad_wy2 X 8) → post (f0, f1, f2, a1, a2, a3, a4, a5, a6, a7, a8, b9)) : ∃ n, wX_findWays_48 post f0 f1 f2 n 0 a1 a2 a3 a4 a5 a6 a7 a8 a9 := by
  refine loop_0 (fun n i s => wX_findWays_48 post f0 f1 f2 n (nI i) a1 a2 a3 a4 a5 a6 a7 a8 s) (fun i s => ad_h9 s (ad_wy2 X i)) 8 a9 h9 ?_ ?_
  · intro n s h
    exact pk_le 8 8 (fun _ => H s h) (fun z => absurd z (by omega))
  · intro n c s hc h k
    refine pk_le 8 c (fun z => absurd z (by omega)) (fun _ => ?_)
    refine loop_0 (fun m j t => wX_findWays_56 post (wX_findWays_48 post f0 f1 f2 n) (nI c) f0 f1 f2 m (nI j) a1 a2 a3 a4 a5 a6 a7 a8 t) (fun j t => ad_h9 t (ad_wy1 c (ad_wy2 X c) j)) 8 s h ?_ ?_
    · intro m t ht
      exact pk_le 8 8 (fun _ => nm_r (nI_1 c) (k t ht)) (fun z => absurd z (by omega))
    · intro m j t hj ht kk
      refine pk_le 8 j (fun z => absurd z (by omega)) (fun _ => ⟨pk_in j 8 hj, ?_⟩)
      refine ad_isIn (ad_by (ad_wy1 c (ad_wy2 X c) j) j) c (fun hb => nm_r (nI_1 j) (kk _ ?_)) (fun hb => ⟨pk_in j 8 hj, pk_in c 8 hc, pk_in j 8 hj, nm_e (nm_r (nI_1 j) (kk _ ?_))⟩) (ad_by8 _ _) hc (by rw [ad_cl (by omega)]; exact ht j hj)
      · rw [ad_wy1_f hb]
        exact ht
      · rw [ad_cl (by omega), ad_cl (by omega), ad_wy1_t hb, ht j hj, ht c hc, ad_or, ad_sh _ (ad_or8 (ad_by8 _ _) (ad_by8 _ _))]
        intro v hv
        rw [ad_by_or (ad_by8 _ _)]
        by_cases e : v = j
        · rw [e, pk_us, if_pos rfl]
        · rw [pk_un e, if_neg e]
          exact ht v hv
theorem ad_findWays {post : St2 → Prop} {x : Int32} {A : Nat → Nat} (g : Nat) (h1 : ad_h8 a1 A) (hg : g < 256) (H : ∀ b9, ad_h9 b9 (ad_way A g) → post (f0, f1, f2, a1, a2, a3, a4, a5, a6, a7, a8, b9)) (hx : x = nI g := by rfl) : wpX_findWays post (f0, f1, f2, a1, a2, a3, a4, a5, a6, a7, a8, a9) x := by
  subst hx
  refine loop_0 (fun n i s => wX_findWays_2 post (nI g) f0 f1 f2 n (nI i) a1 a2 a3 a4 a5 a6 a7 a8 s) (fun i s => (∀ j, j < i → s j = nI (ad_by (ad_wy0 A g i) j)) ∧ (∀ j, i ≤ j → ad_by (ad_wy0 A g i) j = 0)) 8 a9 ⟨fun j hj => absurd hj (by omega), fun j _ => ?_⟩ ?_ ?_
  · show (0 >>> (8 * j)) % 256 = 0
    rw [Nat.zero_shiftRight]
  · intro n s h
    exact pk_le 8 8 (fun _ => ad_fw48 h.1 H) (fun z => absurd z (by omega))
  · intro n i s hi h k
    refine pk_le 8 i (fun z => absurd z (by omega)) (fun _ => ?_)
    refine ad_isIn g i (fun hb => ⟨pk_in i 8 hi, nm_e (nm_r (nI_1 i) (k _ ?_))⟩) (fun hb => ⟨pk_in i 8 hi, pk_in i 8 hi, nm_e (nm_r (nI_1 i) (k _ ?_))⟩) hg hi
    · rw [ad_cl (by omega), ad_wy0_f hb]
      refine ⟨fun j hj => ?_, fun j hj => h.2 j (by omega)⟩
      by_cases e : j = i
      · rw [e, pk_us, h.2 i (Nat.le_refl i)]
        rfl
      · rw [pk_un e]
        exact h.1 j (by omega)
    · have hv : (A i &&& g) ||| 2 ^ i < 256 := ad_or8 (ad_and8 (h1 i hi).2) (ad_p8 i hi)
      rw [ad_cl (by omega), ad_wy0_t hb, (h1 i hi).1, ad_one32 i hi, ad_and, ad_or, ad_sh _ hv]
      refine ⟨fun j hj => ?_, fun j hj => ?_⟩
      · rw [ad_by_or hv]
        by_cases e : j = i
        · rw [e, pk_us, if_pos rfl, h.2 i (Nat.le_refl i), Nat.zero_or]
        · rw [pk_un e, if_neg e]
          exact h.1 j (by omega)
      · rw [ad_by_or hv, if_neg (by omega)]
        exact h.2 j (by omega)
theorem ad_ps76 {post : Int32 → St2 → Prop} {J : Int32 → Int32 → Int32 → (Nat → Int32) → (Nat → Int32) → (Nat → Int64) → (Nat → Int64) → (Nat → Int64) → (Nat → Int64) → (Nat → Int64) → (Nat → Int32) → (Nat → Int32) → Prop} {A : Nat → Nat} {s g C : Nat} (h1 : ad_h8 a1 A) (h9 : ad_h9 a9 C) (hs : s < 256) (hg : g < 256) : ∀ (n l : Nat) (st st' : List Nat) (c2 : Int32) (c8 : Nat → Int32), ad_psh A s g C n l st = some st' → l < 256 → ad_stk st c8 → st.length ≤ 64 → c2 = nI st.length → (∀ b2 b8, ad_stk st' b8 → st'.length ≤ 64 → b2 = nI st'.length → J f0 f1 b2 a1 a2 a3 a4 a5 a6 a7 b8 a9) → wX_fitsParts_76 post J (nI s) (nI g) f0 f1 n (nI l) c2 a1 a2 a3 a4 a5 a6 a7 c8 a9 := by
  intro n
  induction n with
  | zero =>
    intro l st st' c2 c8 h
    exact absurd (show (none : Option (List Nat)) = some st' from h) (by simp)
  | succ n ih =>
    intro l st st' c2 c8 h hl hst h64 hc H
    have h' : (if l = 0 then some st else if st.length < 64 then ad_psh A s g C n (ad_cut l (ad_part C l g)) (ad_cut (ad_part C l g) (ad_att A (ad_cut (s &&& g) (ad_part C l g)) 8) :: st) else none) = some st' := h
    refine ek_if (ad_eq0 rfl hl) (fun z => ?_) (fun z => ?_)
    · rw [if_pos z] at h'
      have e : st = st' := Option.some.inj h'
      subst e
      exact H c2 c8 hst h64 hc
    · rw [if_neg z] at h'
      by_cases hlt : st.length < 64
      · rw [if_pos hlt] at h'
        refine ad_partOf l g h9 hl hg (fun hpt => nm_r (ad_nt l _) ?_)
        refine ad_attacked (ad_cut (s &&& g) (ad_part C l g)) h1 (ad_cut8 (ad_and8 hs)) (fun hat => ⟨pk_in st.length 64 hlt hc, nm_e (nm_r (e' := nI (st.length + 1)) (by rw [hc]; exact nI_1 _) (ih _ _ _ _ _ h' (ad_cut8 hl) ⟨?_, ad_cut8 hpt, ?_⟩ hlt rfl H))⟩) (by rw [ad_and]; exact ad_nt _ _)
        · rw [hc, nI_clamp (by omega), pk_us, ad_nt, ad_sh _ (ad_cut8 hpt)]
        · rw [hc, nI_clamp (by omega)]
          exact ad_stk_u hst (Nat.le_refl _)
      · rw [if_neg hlt] at h'
        exact absurd h' (by simp)
theorem ad_ft16 {post : Int32 → St2 → Prop} {A : Nat → Nat} {s : Nat} (h1 : ad_h8 a1 A) (hs : s < 256) : ∀ (n : Nat) (st : List Nat) (r : Bool) (c2 : Int32) (c8 c9 : Nat → Int32), ad_fit A s n st = some r → ad_stk st c8 → st.length ≤ 64 → c2 = nI st.length → (∀ b2 b8 b9, post (ad_bi r) (f0, f1, b2, a1, a2, a3, a4, a5, a6, a7, b8, b9)) → wX_fitsParts_16 post (nI s) n f0 f1 c2 a1 a2 a3 a4 a5 a6 a7 c8 c9 := by
  intro n
  induction n with
  | zero =>
    intro st r c2 c8 c9 h
    exact absurd (show (none : Option Bool) = some r from h) (by simp)
  | succ n ih =>
    intro st r c2 c8 c9 h hst h64 hc H
    cases st with
    | nil =>
      have e : true = r := Option.some.inj h
      subst e
      exact pk_le 0 0 (fun _ => H c2 c8 c9) (fun z => absurd z (by omega)) hc
    | cons g t =>
      have ht : t.length + 1 ≤ 64 := h64
      obtain ⟨hg0, hg, hst'⟩ := hst
      have h' : (if ad_part (ad_way A g) g g = g then (if ad_nav A (s &&& g) g = true then ad_fit A s n t else some false) else match ad_psh A s g (ad_way A g) 9 g t with | none => none | some t' => ad_fit A s n t') = some r := h
      have e2 : c2 - 1 = nI t.length := by rw [hc]; exact nI_pred _
      refine pk_le (t.length + 1) 0 (fun z => absurd z (by omega)) (fun _ => nm_r e2 ⟨pk_in t.length 64 (by omega), nm_r (e' := nI g) (by rw [nI_clamp (by omega)]; exact hg0) ?_⟩) hc
      refine ad_findWays g h1 hg (fun b9 h9 => ?_)
      refine ad_partOf g g h9 hg hg (fun hpt => ?_)
      refine pk_eq (ad_part (ad_way A g) g g) g (fun e => ?_) (fun e => ?_)
      · rw [if_pos e] at h'
        refine ad_naive (s &&& g) g h1 (ad_and8 hs) hg (fun hn => ?_) (fun hn => ?_) (ad_and s g)
        · rw [if_neg (by rw [hn]; decide)] at h'
          have er : false = r := Option.some.inj h'
          subst er
          exact br_t rfl (H _ _ _)
        · rw [if_pos hn] at h'
          exact br_f (by decide) (ih t r _ _ _ h' hst' (by omega) rfl H)
      · rw [if_neg e] at h'
        cases hp : ad_psh A s g (ad_way A g) 9 g t with
        | none =>
          rw [hp] at h'
          exact absurd h' (by simp)
        | some t' =>
          rw [hp] at h'
          exact ⟨9, ad_ps76 h1 h9 hs hg 9 g t t' _ _ hp hg hst' (by omega) rfl (fun b2 b8 hb8 hb64 hb2 => ih t' r b2 b8 b9 h' hb8 hb64 hb2 H)⟩
theorem ad_fp25 {post : St2 → Prop} {A F : Nat → Nat} {p : Nat} (h1 : ad_h8 a1 A) (h4 : ad_h4 a4 (ad_up F 11 0)) (hp : p < 256) (hf : f0 = nI p) (hfit : ∀ s, s < 256 → (F 0).testBit s = true → (ad_fit A s 12 [p]).isSome = true) (H : ∀ b2 b4 b8 b9, ad_h4 b4 (ad_up F 11 (ad_prs A p (F 0) 256)) → post (f0, f1, b2, a1, a2, a3, b4, a5, a6, a7, b8, b9)) : ∃ n, wX_findParts_25 post n 0 f0 f1 f2 a1 a2 a3 a4 a5 a6 a7 a8 a9 := by
  refine loop_0 (fun n i (s : Int32 × (Nat → Int64) × (Nat → Int32) × (Nat → Int32)) => wX_findParts_25 post n (nI i) f0 f1 s.1 a1 a2 a3 s.2.1 a5 a6 a7 s.2.2.1 s.2.2.2) (fun i s => ad_h4 s.2.1 (ad_up F 11 (ad_prs A p (F 0) i))) 256 (f2, a4, a8, a9) h4 ?_ ?_
  · intro n s h
    exact pk_le 256 256 (fun _ => H _ _ _ _ h) (fun z => absurd z (by omega))
  · intro n i s hi h k
    refine pk_le 256 i (fun z => absurd z (by omega)) (fun _ => ?_)
    refine ad_inFam 0 i h (by decide) hi (fun hb => nm_r (nI_1 i) (k (_, _, _, _) ?_)) (fun hb => ?_)
    · rw [ad_up_n (by decide)] at hb
      dsimp only
      rw [ad_prs_0 hb]
      exact h
    · rw [ad_up_n (by decide)] at hb
      obtain ⟨r, hr⟩ := Option.isSome_iff_exists.mp (hfit i hi hb)
      unfold wpX_fitsParts
      dsimp only
      refine nm_e ⟨12, ad_ft16 h1 hi 12 [p] r _ _ _ hr ⟨?_, hp, trivial⟩ (show 1 ≤ 64 by decide) rfl (fun b2 b8 b9 => ?_)⟩
      · rw [hf, ad_sh p hp]
        exact pk_us
      · cases r with
        | false =>
          refine br_t rfl (nm_r (nI_1 i) (k (_, _, _, _) ?_))
          dsimp only
          rw [ad_prs_1 hb hr]
          exact h
        | true =>
          refine br_f (by decide) ?_
          rw [ad_6 hi]
          refine ⟨pk_in (44 + i / 64) 48 (by omega) (nI_add 44 (i / 64)), pk_in (44 + i / 64) 48 (by omega) (nI_add 44 (i / 64)), nm_e (nm_r (nI_1 i) (k (_, _, _, _) ?_))⟩
          exact ad_set4' h hi (pk_cl (44 + i / 64) (nI_add 44 (i / 64))) (by decide) (ad_prs_2 hb hr)
theorem ad_findParts {post : St2 → Prop} {A F : Nat → Nat} {p : Nat} (h1 : ad_h8 a1 A) (h4 : ad_h4 a4 F) (hp : p < 256) (hf : f0 = nI p) (hfit : ∀ s, s < 256 → (F 0).testBit s = true → (ad_fit A s 12 [p]).isSome = true) (H : ∀ b2 b4 b8 b9, ad_h4 b4 (ad_up F 11 (ad_prs A p (F 0) 256)) → post (f0, f1, b2, a1, a2, a3, b4, a5, a6, a7, b8, b9)) : wpX_findParts post (f0, f1, f2, a1, a2, a3, a4, a5, a6, a7, a8, a9) := by
  refine loop_0 (fun n i s => wX_findParts_2 post f0 f1 f2 n (nI i) a1 a2 a3 s a5 a6 a7 a8 a9) (fun i s => ad_wr a4 s 44 0 i) 4 a4 (ad_wr0 _ _ _) ?_ ?_
  · intro n s h
    exact pk_le 4 4 (fun _ => ad_fp25 h1 (ad_wr4 h4 h rfl) hp hf hfit H) (fun z => absurd z (by omega))
  · intro n i s hi h k
    exact pk_le 4 i (fun z => absurd z (by omega)) (fun _ => ⟨pk_in (44 + i) 48 (by omega) (nI_add 44 i), nm_e (nm_r (nI_1 i) (k _ (ad_wrs h (pk_cl (44 + i) (nI_add 44 i)) (ad_W0 i).symm)))⟩)
end
end
section
/-! ===== findAll, count, is, attackers; init, put, attack ===== -/
theorem ad_p256 : ∀ a, a < 9 → ∀ b, b < 9 → ad_p a b < 256 := by decide +kernel
def ad_Fn (a b : Nat) (F : Nat → Nat) (L : List Nat) : Nat → Nat := fun k => if L.contains k = true then ad_e a b k else F k
theorem ad_Fn_i {a b k : Nat} {F : Nat → Nat} {L : List Nat} (h : L.contains k = true) : ad_Fn a b F L k = ad_e a b k := if_pos h
theorem ad_Fn_u {a b k X : Nat} {F : Nat → Nat} {L : List Nat} {c : Nat → Int64} (h : ad_h4 c (ad_up (ad_Fn a b F L) k X)) (hX : X = ad_e a b k) : ad_h4 c (ad_Fn a b F (k :: L)) := by
  intro j hj w hw
  have t := h j hj w hw
  by_cases e : j = k
  · rw [e, ad_up_s, hX] at t
    rw [e, ad_Fn_i (by simp)]
    exact t
  · rw [ad_up_n e] at t
    rw [t]
    unfold ad_Fn
    rw [List.contains_cons, show (j == k) = false by simpa using e, Bool.false_or]
theorem ad_Fn_0 {a b : Nat} {F : Nat → Nat} {c : Nat → Int64} (h : ad_h4 c F) : ad_h4 c (ad_Fn a b F []) := h
def ad_se (x : Int32) (k : Nat) : Prop := (k < 12 ∧ x = nI k) ∨ (k = 12 ∧ (x < 0 ∨ 11 < x))
theorem ad_sex (x : Int32) : ∃ k, ad_se x k := by
  rcases pk_ix x (n := 12) (by decide) with h | h | ⟨j, hj, e⟩
  · exact ⟨12, Or.inr ⟨rfl, Or.inl h⟩⟩
  · refine ⟨12, Or.inr ⟨rfl, Or.inr ?_⟩⟩
    have h2 : (nI 12).toInt ≤ x.toInt := Int32.le_iff_toInt_le.mp h
    exact Int32.lt_iff_toInt_lt.mpr (by
      have e8 : (nI 12).toInt = 12 := by decide
      have e7 : (11 : Int32).toInt = 11 := by decide
      omega)
  · exact ⟨j, Or.inl ⟨hj, e⟩⟩
noncomputable def ad_hv (a : Nat) : Nat → Nat := ad_fd (fun s r => if s.testBit a then r ||| 2 ^ s else r) 0
theorem ad_hv_t {a i : Nat} (h : i.testBit a = true) : ad_hv a (i + 1) = ad_hv a i ||| 2 ^ i := if_pos h
theorem ad_hv_f {a i : Nat} (h : i.testBit a = false) : ad_hv a (i + 1) = ad_hv a i := if_neg (by rw [h]; decide)
theorem ad_hvH : ∀ a, a < 8 → ad_hv a 256 = ad_H a := by decide +kernel
theorem ad_cnt_t {X i : Nat} (h : X.testBit i = true) : ad_cnt X (i + 1) = ad_cnt X i + 1 := if_pos h
theorem ad_cnt_f {X i : Nat} (h : X.testBit i = false) : ad_cnt X (i + 1) = ad_cnt X i := if_neg (by rw [h]; decide)
section
variable {f0 f1 f2 : Int32} {a1 a2 : Nat → Int32} {a3 a4 a5 a6 a7 : Nat → Int64} {a8 a9 : Nat → Int32}
theorem ad_findAll {post : St2 → Prop} {a b : Nat} {F : Nat → Nat} (ha : a < 9) (hb : b < 9) (hf : f0 = nI (ad_p a b)) (hk : f1 = 0) (h1 : ad_h8 a1 (ad_A a b)) (h2 : ad_h8 a2 (ad_B a b)) (h3 : ad_h3 a3) (h4 : ad_h4 a4 F) (H : ∀ b2 b4 b5 b6 b7 b8 b9, ad_h4 b4 (ad_e a b) → post (f0, 1, b2, a1, a2, a3, b4, b5, b6, b7, b8, b9)) : wpX_findAll post (f0, f1, f2, a1, a2, a3, a4, a5, a6, a7, a8, a9) := by
  have hp : ad_p a b < 256 := ad_p256 a ha b hb
  unfold wpX_findAll
  refine br_t hk ?_
  refine ad_startFree h1 h3 (ad_Fn_0 (a := a) (b := b) h4) hf (fun c0 g0 => ?_)
  have g0 := ad_Fn_u g0 (ad_s0 a ha b hb)
  refine ad_startAdm h2 h3 g0 (fun c1 g1 => ?_)
  have g1 := ad_Fn_u g1 (by rw [ad_Fn_i (by decide)]; exact ad_s1 a ha b hb)
  refine ad_startCom h2 h3 g1 hp hf (fun c2 g2 => ?_)
  have g2 := ad_Fn_u g2 (by rw [ad_Fn_i (by decide)]; exact ad_s2 a ha b hb)
  refine ad_startSta h2 h3 g2 hp hf (fun c3 g3 => ?_)
  have g3 := ad_Fn_u g3 (by rw [ad_Fn_i (by decide)]; exact ad_s5 a ha b hb)
  refine ad_findLeast h1 h2 g3 hp hf (fun c4 g4 => ?_)
  have g4 := ad_Fn_u g4 (ad_s3 a ha b hb)
  refine ad_takeG 4 1 h3 g4 (by decide) (by decide) (fun c5 d5 d6 g5 => ?_)
  have g5 := ad_Fn_u g5 (by rw [ad_Fn_i (by decide)]; exact ad_s4 a ha b hb)
  refine ad_takeG 8 0 h3 g5 (by decide) (by decide) (fun c6 d5 d6 g6 => ?_)
  have g6 := ad_Fn_u g6 (by rw [ad_Fn_i (by decide)]; exact ad_s8 a ha b hb)
  refine ad_takeW 6 2 h1 h3 g6 (by decide) (by decide) (by decide) (fun c7 d5 d6 d7 g7 => ?_)
  have g7 := ad_Fn_u g7 (by rw [ad_Fn_i (by decide)]; exact ad_s6 a ha b hb)
  refine ad_takeW 7 0 h1 h3 g7 (by decide) (by decide) (by decide) (fun c8 d5 d6 d7 g8 => ?_)
  have g8 := ad_Fn_u g8 (by rw [ad_Fn_i (by decide)]; exact ad_s7 a ha b hb)
  refine ad_takeI 9 4 h3 g8 hp hf (by decide) (by decide) (fun c9 d5 d6 g9 => ?_)
  have g9 := ad_Fn_u g9 (by rw [ad_Fn_i (by decide), ad_Fn_i (by decide)]; exact ad_s9 a ha b hb)
  refine ad_takeI 10 6 h3 g9 hp hf (by decide) (by decide) (fun c10 d5 d6 g10 => ?_)
  have g10 := ad_Fn_u g10 (by rw [ad_Fn_i (by decide), ad_Fn_i (by decide)]; exact ad_s10 a ha b hb)
  refine ad_findParts h1 g10 hp hf (by rw [ad_Fn_i (by decide)]; exact ad_s11' a ha b hb) (fun e2 c11 e8 e9 g11 => ?_)
  have g11 := ad_Fn_u g11 (by rw [ad_Fn_i (by decide)]; exact ad_s11 a ha b hb)
  refine H _ _ _ _ _ _ _ (fun k hk w hw => ?_)
  have t := g11 k hk w hw
  have hc : ∀ k, k < 12 → [11, 10, 9, 7, 6, 8, 4, 3, 5, 2, 1, 0].contains k = true := by decide
  rw [ad_Fn_i (hc k hk)] at t
  exact t
theorem ad_findAll' {post : St2 → Prop} (hk : ¬ f1 = 0) (H : post (f0, f1, f2, a1, a2, a3, a4, a5, a6, a7, a8, a9)) : wpX_findAll post (f0, f1, f2, a1, a2, a3, a4, a5, a6, a7, a8, a9) := by
  unfold wpX_findAll
  exact br_f hk H
theorem ad_isSense {P Q : Prop} {u : St2} {x : Int32} {k : Nat} (hx : ad_se x k) (f : k = 12 → P) (g : k < 12 → Q) : wpX_isSense (fun r => (((r = 0 → P) ∧ (¬ r = 0 → Q)))) u x := by
  obtain ⟨f0, f1, f2, a1, a2, a3, a4, a5, a6, a7, a8, a9⟩ := u
  unfold wpX_isSense
  dsimp only
  rcases hx with ⟨hk, rfl⟩ | ⟨hk, h⟩
  · exact br_f (nI_pos (by omega)) (br_f (nI_nlt (a := 11) (by omega) (by decide)) ⟨fun t => absurd t (by decide), fun _ => g hk⟩)
  · refine br_c (fun _ => ⟨fun _ => f hk, fun t => absurd rfl t⟩) (fun h0 => br_t ?_ ⟨fun _ => f hk, fun t => absurd rfl t⟩)
    rcases h with h | h
    · exact absurd h h0
    · exact h
theorem ad_cn18 {post : Int32 → St2 → Prop} {F : Nat → Nat} {k : Nat} (h4 : ad_h4 a4 F) (hk : k < 12) (H : post (nI (ad_cnt (F k) 256)) (f0, f1, f2, a1, a2, a3, a4, a5, a6, a7, a8, a9)) : ∃ n, wX_count_18 post (nI k) f0 f1 f2 a1 a2 a3 a4 a5 a6 a7 a8 a9 n 0 0 := by
  refine ad_loop (fun n i r => wX_count_18 post (nI k) f0 f1 f2 a1 a2 a3 a4 a5 a6 a7 a8 a9 n r (nI i)) (fun i => nI (ad_cnt (F k) i)) 256 rfl ?_ ?_
  · intro n
    exact pk_le 256 256 (fun _ => H) (fun z => absurd z (by omega))
  · intro n i hi kk
    refine pk_le 256 i (fun z => absurd z (by omega)) (fun _ => ?_)
    exact ad_inFam k i h4 hk hi (fun hb => nm_r (nI_1 i) (kk _ (congrArg nI (ad_cnt_f hb).symm))) (fun hb => nm_r (nI_1 _) (nm_r (nI_1 i) (kk _ (congrArg nI (ad_cnt_t hb).symm))))
theorem ad_count {post : Int32 → St2 → Prop} {x : Int32} {a b k : Nat} {F : Nat → Nat} (hx : ad_se x k) (ha : a < 9) (hb : b < 9) (hf : f0 = nI (ad_p a b)) (hk : f1 = 0) (h1 : ad_h8 a1 (ad_A a b)) (h2 : ad_h8 a2 (ad_B a b)) (h3 : ad_h3 a3) (h4 : ad_h4 a4 F) (H0 : k = 12 → post (-1) (f0, f1, f2, a1, a2, a3, a4, a5, a6, a7, a8, a9)) (H : k < 12 → ∀ b2 b4 b5 b6 b7 b8 b9, ad_h4 b4 (ad_e a b) → post (nI (ad_due a b k)) (f0, 1, b2, a1, a2, a3, b4, b5, b6, b7, b8, b9)) : wpX_count post (f0, f1, f2, a1, a2, a3, a4, a5, a6, a7, a8, a9) x := by
  unfold wpX_count
  dsimp only
  refine ad_isSense hx H0 (fun h12 => ?_)
  refine ad_findAll ha hb hf hk h1 h2 h3 h4 (fun b2 b4 b5 b6 b7 b8 b9 h4' => ?_)
  have ex : x = nI k := by
    rcases hx with ⟨_, e⟩ | ⟨e, _⟩
    · exact e
    · omega
  subst ex
  refine ad_cn18 h4' h12 ?_
  rw [ad_sc a ha b hb k h12]
  exact H h12 b2 b4 b5 b6 b7 b8 b9 h4'
/-- an int that is a set s within p, or none (256) -/
def ad_st (y : Int32) (p s : Nat) : Prop := (s < 256 ∧ y = nI s ∧ y &&& (nI p ^^^ (-1)) = 0) ∨ (s = 256 ∧ (¬ y < 0 → ¬ y &&& (nI p ^^^ (-1)) = 0))
theorem ad_stx (y : Int32) {p : Nat} (hp : p < 256) : ∃ s, ad_st y p s := by
  by_cases h0 : y < 0
  · exact ⟨256, Or.inr ⟨rfl, fun h => absurd h0 h⟩⟩
  · obtain ⟨s, hs, e⟩ := nI_of h0
    by_cases hc : y &&& (nI p ^^^ (-1)) = 0
    · refine ⟨s, Or.inl ⟨?_, e, hc⟩⟩
      have hc' := hc
      have hlt : ad_cut s p < 2 ^ 31 := Nat.xor_lt_two_pow hs (Nat.and_lt_two_pow _ (show p < 2 ^ 31 by omega))
      rw [e, ad_nt, ← nI_0, nI_eq hlt (show 0 < 2 ^ 31 by decide)] at hc'
      have h2 : s = s &&& p := by
        have t := congrArg (fun z => z ^^^ (s &&& p)) hc'
        simpa [ad_cut, Nat.xor_assoc] using t
      rw [h2, Nat.and_comm]
      exact ad_and8 hp
    · exact ⟨256, Or.inr ⟨rfl, fun _ => hc⟩⟩
theorem ad_is0 {post : Int32 → St2 → Prop} {x y : Int32} (hx : ad_se x 12) (H : post 0 (f0, f1, f2, a1, a2, a3, a4, a5, a6, a7, a8, a9)) : wpX_is post (f0, f1, f2, a1, a2, a3, a4, a5, a6, a7, a8, a9) x y := by
  unfold wpX_is
  dsimp only
  exact ad_isSense hx (fun _ => H) (fun h => absurd h (by decide))
theorem ad_is1 {post : Int32 → St2 → Prop} {x y : Int32} {p k s : Nat} {F : Nat → Nat} (hx : ad_se x k) (hk : k < 12) (hy : ad_st y p s) (hf : f0 = nI p) (hkn : ¬ f1 = 0) (h4 : ad_h4 a4 F) (H : post (ad_bi (decide (s < 256) && (F k).testBit s)) (f0, f1, f2, a1, a2, a3, a4, a5, a6, a7, a8, a9)) : wpX_is post (f0, f1, f2, a1, a2, a3, a4, a5, a6, a7, a8, a9) x y := by
  unfold wpX_is
  dsimp only
  refine ad_isSense hx (fun h => absurd h (by omega)) (fun _ => ?_)
  have ex : x = nI k := by
    rcases hx with ⟨_, e⟩ | ⟨e, _⟩
    · exact e
    · omega
  subst ex hf
  rcases hy with ⟨hs, rfl, hc⟩ | ⟨rfl, hc⟩
  · rw [decide_eq_true hs, Bool.true_and] at H
    refine br_f (nI_pos (by omega)) (br_t hc (ad_findAll' hkn ?_))
    refine ad_inFamG k s h4 hk hs (fun hb => ⟨rfl, ?_⟩) (fun hb => ⟨rfl, ?_⟩)
    · rw [hb] at H
      exact H
    · rw [hb] at H
      exact H
  · exact br_c (fun _ => H) (fun h0 => br_f (hc h0) H)
theorem ad_attackers {post : Int32 → Prop} {x : Int32} {p b : Nat} {B : Nat → Nat} (hx : ad_ar x b) (hp : p < 256) (hf : f0 = nI p) (h2 : ad_h8 a2 B) (f : p.testBit b = false → post (-1)) (g : p.testBit b = true → b < 8 → post (nI (B b))) : wpX_attackers post (f0, f1, f2, a1, a2, a3, a4, a5, a6, a7, a8, a9) x := by
  unfold wpX_attackers
  dsimp only
  refine ad_isThere hx hp hf f (fun hb => ?_)
  rcases hx with ⟨h8, rfl⟩ | ⟨h8, _⟩
  · refine ⟨pk_in b 8 h8, ?_⟩
    rw [ad_cl (by omega), (h2 b h8).1]
    exact g hb h8
  · rw [h8, Nat.testBit_lt_two_pow (i := 8) hp] at hb
    exact absurd hb (by decide)
theorem ad_init {post : St2 → Prop} {mc ms : Nat} (hm : 9 ≤ mc) (hs : 180 ≤ ms) (H : ∀ b3, ad_h3 b3 → post (0, 0, 0, (fun _ => 0), (fun _ => 0), b3, (fun _ => 0), (fun _ => 0), (fun _ => 0), (fun _ => 0), (fun _ => 0), (fun _ => 0))) : wpX_init post mc ms (0, 0, 0) := by
  refine ⟨by omega, by omega, by omega, by omega, by omega, by omega, by omega, by omega, by omega, by omega, by omega, by omega, by omega, by omega, by omega, by omega, by omega, by omega, ?_⟩
  refine loop_0 (fun n i s => wX_init_75 post mc ms 9 180 0 0 0 n (nI i) (fun _ => 0) (fun _ => 0) s (fun _ => 0) (fun _ => 0) (fun _ => 0) (fun _ => 0) (fun _ => 0) (fun _ => 0)) (fun i s => ∀ a, a < 8 → ∀ w, w < 4 → s (4 * a + w) = ad_W (ad_hv a i) w) 256 (fun _ => 0) (fun a _ w _ => (ad_W0 w).symm) ?_ ?_
  · intro n s h
    exact pk_le 256 256 (fun _ => H s (fun a ha w hw => by rw [h a ha w hw, ad_hvH a ha])) (fun z => absurd z (by omega))
  · intro n i s hi h k
    refine pk_le 256 i (fun z => absurd z (by omega)) (fun _ => ?_)
    refine loop_0 (fun m j t => wX_init_84 post mc ms (wX_init_75 post mc ms 9 180 0 0 0 n) (nI i) 9 180 0 0 0 m (nI j) (fun _ => 0) (fun _ => 0) t (fun _ => 0) (fun _ => 0) (fun _ => 0) (fun _ => 0) (fun _ => 0) (fun _ => 0)) (fun j t => ∀ a, a < 8 → ∀ w, w < 4 → t (4 * a + w) = ad_W (if a < j then ad_hv a (i + 1) else ad_hv a i) w) 8 s (fun a ha w hw => by rw [if_neg (by omega)]; exact h a ha w hw) ?_ ?_
    · intro m t ht
      exact pk_le 8 8 (fun _ => nm_r (nI_1 i) (k t (fun a ha w hw => by rw [ht a ha w hw, if_pos ha]))) (fun z => absurd z (by omega))
    · intro m j t hj ht kk
      refine pk_le 8 j (fun z => absurd z (by omega)) (fun _ => ?_)
      refine ad_isIn i j (fun hb => nm_r (nI_1 j) (kk _ ?_)) (fun hb => ?_) hi hj
      · intro a ha w hw
        rw [ht a ha w hw]
        by_cases e : a = j
        · rw [e, if_neg (by omega), if_pos (by omega), ad_hv_f hb]
        · by_cases e2 : a < j
          · rw [if_pos e2, if_pos (by omega)]
          · rw [if_neg e2, if_neg (by omega)]
      · rw [ad_6 hi]
        refine ⟨pk_in (4 * j + i / 64) 32 (by omega) (ad_4 j (i / 64)), pk_in (4 * j + i / 64) 32 (by omega) (ad_4 j (i / 64)), nm_e (nm_r (nI_1 j) (kk _ ?_))⟩
        rw [ad_4c (by omega) (by omega)]
        intro a ha w hw
        by_cases e : a = j
        · rw [e, if_pos (by omega), ad_hv_t hb, ad_Wor, ad_Wp i hi w hw]
          have tj := ht j hj
          by_cases ew : w = i / 64
          · rw [if_pos ew, ew, pk_uLs, tj (i / 64) (by omega), if_neg (by omega)]
          · rw [if_neg ew, pk_uLn (by omega), tj w hw, if_neg (by omega), Int64.or_zero]
        · rw [pk_uLn (by omega), ht a ha w hw]
          by_cases e2 : a < j
          · rw [if_pos e2, if_pos (by omega)]
          · rw [if_neg e2, if_neg (by omega)]
theorem ad_up8 {a : Nat → Int32} {k : Nat} (h : ad_h8 a (fun _ => 0)) : ad_h8 (upd a k 0) (fun _ => 0) := by
  intro j hj
  refine ⟨?_, show 0 < 256 by decide⟩
  by_cases e : j = k
  · rw [e, pk_us]
    rfl
  · rw [pk_un e]
    exact (h j hj).1
theorem ad_put {post : Int32 → St2 → Prop} {x : Int32} {p a : Nat} (hx : ad_ar x a) (hp : p < 256) (hf : f0 = nI p) (h1 : ad_h8 a1 (fun _ => 0)) (h2 : ad_h8 a2 (fun _ => 0)) (H0 : (a = 8 ∨ p.testBit a = true) → post 0 (f0, f1, f2, a1, a2, a3, a4, a5, a6, a7, a8, a9)) (H1 : a < 8 → p.testBit a = false → ∀ b1 b2, ad_h8 b1 (fun _ => 0) → ad_h8 b2 (fun _ => 0) → post 1 (nI (p ^^^ 2 ^ a), 0, f2, b1, b2, a3, a4, a5, a6, a7, a8, a9)) : wpX_put post (f0, f1, f2, a1, a2, a3, a4, a5, a6, a7, a8, a9) x 1 := by
  unfold wpX_put
  dsimp only
  rcases hx with ⟨h8, rfl⟩ | ⟨h8, h⟩
  · refine br_f (nI_pos (by omega)) (br_f (nI_nlt (a := 7) (by omega) (by decide)) ?_)
    subst hf
    unfold wpX_isIn
    dsimp only
    refine ek_if (ad_tb hp h8) (fun hb => br_f (by decide) ?_) (fun hb => br_t rfl (H0 (Or.inr (by simpa using hb))))
    refine nm_r (e' := nI (p ^^^ 2 ^ a)) (by rw [ad_one32 a h8, ad_xor]) ⟨1, ?_⟩
    refine br_f (by decide) (br_f (by decide) ?_)
    unfold wX_put_85
    rw [ad_cl (by omega)]
    exact ⟨pk_in a 8 h8, nm_e ⟨pk_in a 8 h8, nm_e (H1 h8 hb _ _ (ad_up8 h1) (ad_up8 h2))⟩⟩
  · refine br_c (fun _ => H0 (Or.inl h8)) (fun h0 => br_t ?_ (H0 (Or.inl h8)))
    rcases h with h | h
    · exact absurd h h0
    · exact h
theorem ad_pa : ∀ a, a < 9 → ∀ b, b < 9 → (ad_p a b).testBit a = ad_one a ∧ (ad_p a b).testBit b = ad_one b := by decide +kernel
theorem ad_A0 {a b j : Nat} (h : ad_ht a b = false) : ad_A a b j = 0 := by
  unfold ad_A
  rw [h]
  rfl
theorem ad_B0 {a b j : Nat} (h : ad_ht a b = false) : ad_B a b j = 0 := by
  unfold ad_B
  rw [h]
  rfl
theorem ad_attack {post : Int32 → St2 → Prop} {x y : Int32} {a b : Nat} (hx : ad_ar x a) (hy : ad_ar y b) (ha : a < 9) (hb : b < 9) (hf : f0 = nI (ad_p a b)) (hk : f1 = 0) (h1 : ad_h8 a1 (fun _ => 0)) (h2 : ad_h8 a2 (fun _ => 0)) (H : ∀ b1 b2, ad_h8 b1 (ad_A a b) → ad_h8 b2 (ad_B a b) → post (ad_bi (ad_ht a b)) (f0, 0, f2, b1, b2, a3, a4, a5, a6, a7, a8, a9)) : wpX_attack post (f0, f1, f2, a1, a2, a3, a4, a5, a6, a7, a8, a9) x y 1 := by
  have hp : ad_p a b < 256 := ad_p256 a ha b hb
  have pa := (ad_pa a ha b hb).1
  have pb := (ad_pa a ha b hb).2
  have no : ad_ht a b = false → post 0 (f0, f1, f2, a1, a2, a3, a4, a5, a6, a7, a8, a9) := by
    intro h
    have t := H a1 a2 (fun j hj => by rw [ad_A0 h]; exact h1 j hj) (fun j hj => by rw [ad_B0 h]; exact h2 j hj)
    rw [h] at t
    subst hk
    exact t
  unfold wpX_attack
  dsimp only
  refine ad_isThere hx hp hf (fun h => no ?_) (fun h => ?_)
  · rw [pa] at h
    unfold ad_ht
    rw [h]
    rfl
  · refine ad_isThere hy hp hf (fun g => no ?_) (fun g => ?_)
    · rw [pb] at g
      unfold ad_ht
      rw [g, Bool.and_false]
    · rw [pa] at h
      rw [pb] at g
      have ht : ad_ht a b = true := by
        unfold ad_ht
        rw [h, g]
        rfl
      have a8' : a < 8 := by
        have := Nat.le_of_ble_eq_true h
        omega
      have b8' : b < 8 := by
        have := Nat.le_of_ble_eq_true g
        omega
      have ex : x = nI a := by
        rcases hx with ⟨_, e⟩ | ⟨e, _⟩
        · exact e
        · omega
      have ey : y = nI b := by
        rcases hy with ⟨_, e⟩ | ⟨e, _⟩
        · exact e
        · omega
      subst ex ey
      refine ⟨pk_in a 8 a8', ?_⟩
      rw [ad_cl (show a < 1000 by omega), ad_cl (show b < 1000 by omega), (h1 a a8').1, (h2 b b8').1]
      unfold wpX_isIn
      dsimp only
      refine br_t ((ad_tb (s := 0) (by decide) b8').mpr (Nat.zero_testBit b)) (br_f (by decide) ?_)
      rw [ad_one32 a a8', ad_one32 b b8', ad_xor, ad_xor, Nat.zero_xor, Nat.zero_xor, ad_sh _ (ad_p8 a a8'), ad_sh _ (ad_p8 b b8')]
      refine ⟨pk_in a 8 a8', pk_in a 8 a8', nm_e ⟨pk_in b 8 b8', pk_in b 8 b8', nm_e ?_⟩⟩
      rw [ht] at H
      refine H _ _ (fun j hj => ?_) (fun j hj => ?_)
      · unfold ad_A
        rw [ht, Bool.true_and]
        by_cases e : j = a
        · rw [e, pk_us, if_pos (Nat.beq_refl a)]
          exact ⟨rfl, ad_p8 b b8'⟩
        · rw [pk_un e, if_neg (fun z => e (Nat.eq_of_beq_eq_true z))]
          exact h1 j hj
      · unfold ad_B
        rw [ht, Bool.true_and]
        by_cases e : j = b
        · rw [e, pk_us, if_pos (Nat.beq_refl b)]
          exact ⟨rfl, ad_p8 a a8'⟩
        · rw [pk_un e, if_neg (fun z => e (Nat.eq_of_beq_eq_true z))]
          exact h2 j hj
end
end
section
/-! ===== the law ===== -/
theorem ad_bz {t : Bool} {P Q : Prop} (f : t = false → P) (g : t = true → Q) : (ad_bi t = 0 → P) ∧ (¬ ad_bi t = 0 → Q) := by
  cases t with
  | false => exact br_t rfl (f rfl)
  | true => exact br_f (by decide) (g rfl)
theorem ad_tbi (t : Bool) (n s : Nat) : (if t = true then 2 ^ n else 0).testBit s = (t && decide (s = n)) := by
  cases t with
  | false => exact Nat.zero_testBit s
  | true =>
    show (2 ^ n).testBit s = decide (s = n)
    rw [Nat.testBit_two_pow]
    exact decide_eq_decide.mpr eq_comm
theorem ad_tbe (a b k s : Nat) : (ad_e a b k).testBit s = (((ad_non a b k && decide (s = 0)) || (ad_lft a b && decide (s = ad_bit a))) || (ad_rgt a b k && decide (s = ad_bit b))) := by
  unfold ad_e
  rw [Nat.testBit_or, Nat.testBit_or, ad_tbi, ad_tbi]
  have h := ad_tbi (ad_non a b k) 0 s
  rw [Nat.pow_zero] at h
  rw [h]
theorem ad_t1 : ∀ a, a < 9 → ∀ b, b < 9 → (b = 8 ∨ (ad_bit a).testBit b = true) → ad_p a b = ad_bit a ∧ (ad_one b = false ∨ Nat.beq a b = true) := by decide +kernel
theorem ad_t2 : ∀ a, a < 9 → ∀ b, b < 8 → (ad_bit a).testBit b = false → ad_bit a ^^^ 2 ^ b = ad_p a b ∧ Nat.beq a b = false ∧ ad_one b = true := by decide +kernel
theorem ad_t3 : ∀ a, a < 9 → ad_bit a < 256 ∧ (ad_one a = true → ad_bit a ≠ 0) := by decide +kernel
theorem ad_t4 : ∀ a, a < 8 → ad_one a = true ∧ ad_bit a = 2 ^ a := by decide +kernel
theorem ad_t5 : ∀ a, a < 9 → ∀ b, b < 8 → ad_ht a b = true → ad_B a b b = ad_bit a := by decide +kernel
section
variable {f0 f1 f2 : Int32} {a1 a2 : Nat → Int32} {a3 a4 a5 a6 a7 : Nat → Int64} {a8 a9 : Nat → Int32} {post : Int32 → St0 → Prop} {mc ms : Nat} {x0 x1 x2 x3 x4 x5 x6 x7 x8 x9 x10 x11 x12 x13 x14 x15 x16 x18 z0 z1 : Int32} {a b k s kc ks : Nat} {F : Nat → Nat}
theorem ad_l413 (hx1 : ad_ar x1 b) (ha : a < 9) (hb : b < 9) (hx2 : ad_se x2 k) (hx3 : ad_st x3 (ad_p a b) s) (h5 : x5 = ad_bi (ad_one b)) (h8 : x8 = nI (ad_bit a)) (h11 : x11 = ad_bi (ad_ht a b)) (h18 : x18 = ad_bi (decide (k < 12) && (decide (s < 256) && (ad_e a b k).testBit s))) (hz : z1 = z0) (hf : f0 = nI (ad_p a b)) (h2 : ad_h8 a2 (ad_B a b)) (h4 : k < 12 → ¬ f1 = 0 ∧ ad_h4 a4 (ad_e a b)) (H : post 1 ()) : wL_lawOf_413 post mc ms x1 x2 x3 x5 x8 x11 x18 z0 z1 kc ks f0 f1 f2 a1 a2 a3 a4 a5 a6 a7 a8 a9 := by
  have hp : ad_p a b < 256 := ad_p256 a ha b hb
  have pb := (ad_pa a ha b hb).2
  subst h5 h8 h11 h18
  have fin : wpX_attackers (fun r => (((ad_bi (ad_one b) = 0 → (wL_lawOf_458 post mc ms (-1) r kc ks)) ∧ (¬ ad_bi (ad_one b) = 0 → (((ad_bi (ad_ht a b) = 0 → (wL_lawOf_458 post mc ms 0 r kc ks)) ∧ (¬ ad_bi (ad_ht a b) = 0 → (wL_lawOf_458 post mc ms (nI (ad_bit a)) r kc ks)))))))) (f0, f1, f2, a1, a2, a3, a4, a5, a6, a7, a8, a9) x1 := by
    refine ad_attackers hx1 hp hf h2 (fun h => ?_) (fun h b8 => ?_)
    · rw [pb] at h
      exact ad_bz (fun _ => br_t rfl H) (fun t => absurd (h.symm.trans t) (by decide))
    · rw [pb] at h
      refine ad_bz (fun t => absurd (h.symm.trans t) (by decide)) (fun _ => ad_bz (fun t => ?_) (fun t => ?_))
      · rw [ad_B0 t]
        exact br_t rfl H
      · rw [ad_t5 a ha b b8 t]
        exact br_t rfl H
  unfold wL_lawOf_413
  refine br_t hz ?_
  by_cases hk : k < 12
  · rw [decide_eq_true hk, Bool.true_and]
    exact ad_is1 hx2 hk hx3 hf (h4 hk).1 (h4 hk).2 (br_t rfl fin)
  · rw [decide_eq_false hk, Bool.false_and]
    have e : k = 12 := by
      rcases hx2 with ⟨h, _⟩ | ⟨h, _⟩
      · exact absurd h hk
      · exact h
    subst e
    exact ad_is0 hx2 (br_t rfl fin)
theorem ad_l376 (hx0 : ad_ar x0 a) (hx1 : ad_ar x1 b) (ha : a < 9) (hb : b < 9) (hx2 : ad_se x2 k) (hx3 : ad_st x3 (ad_p a b) s) (h5 : x5 = ad_bi (ad_one b)) (h7 : x7 = ad_bi (decide (k < 12))) (h8 : x8 = nI (ad_bit a)) (h11 : x11 = ad_bi (ad_ht a b)) (h16 : k < 12 → x16 = nI (ad_due a b k)) (h18 : x18 = ad_bi (decide (k < 12) && (decide (s < 256) && (ad_e a b k).testBit s))) (hz : z1 = z0) (hf : f0 = nI (ad_p a b)) (hk : f1 = 0) (h1 : ad_h8 a1 (fun _ => 0)) (h2 : ad_h8 a2 (fun _ => 0)) (h3 : ad_h3 a3) (h4 : ad_h4 a4 F) (H : post 1 ()) : wL_lawOf_376 post mc ms x0 x1 x2 x3 x5 x7 x8 x11 x16 x18 z0 z1 kc ks f0 f1 f2 a1 a2 a3 a4 a5 a6 a7 a8 a9 := by
  unfold wL_lawOf_376
  refine br_t hz ?_
  refine ad_attack hx0 hx1 ha hb hf hk h1 h2 (fun b1 b2 g1 g2 => ?_)
  refine br_t h11.symm ?_
  refine ad_count hx2 ha hb hf rfl g1 g2 h3 h4 (fun e => ?_) (fun h12 c2 c4 c5 c6 c7 c8 c9 g4 => ?_)
  · rw [h7, decide_eq_false (by omega)]
    exact br_t rfl (ad_l413 hx1 ha hb hx2 hx3 h5 h8 h11 h18 rfl hf g2 (fun h => absurd h (by omega)) H)
  · rw [h7, decide_eq_true h12]
    exact br_f (by decide) (ad_l413 hx1 ha hb hx2 hx3 h5 h8 h11 h18 (h16 h12).symm hf g2 (fun _ => ⟨by decide, g4⟩) H)
theorem ad_l329 {sm : Bool} (hx0 : ad_ar x0 a) (hx1 : ad_ar x1 b) (ha : a < 9) (hb : b < 9) (hx2 : ad_se x2 k) (hx3 : ad_st x3 (ad_p a b) s) (h4' : x4 = ad_bi (ad_one a)) (h5 : x5 = ad_bi (ad_one b)) (h6 : x6 = ad_bi sm) (hsm : ad_one b = true → sm = Nat.beq a b) (h7 : x7 = ad_bi (decide (k < 12))) (h8 : x8 = nI (ad_bit a)) (h11 : x11 = ad_bi (ad_ht a b)) (h16 : k < 12 → x16 = nI (ad_due a b k)) (hz : z0 = ad_bi (decide (k < 12) && (decide (s < 256) && (ad_e a b k).testBit s))) (hmc : kc + 10 ≤ mc) (hms : ks + 192 ≤ ms) (H : post 1 ()) : wL_lawOf_329 post mc ms x0 x1 x2 x3 x4 x5 x6 x7 x8 x11 x16 z0 kc ks := by
  unfold wL_lawOf_329
  refine ⟨by omega, by omega, 9, 180, by omega, by omega, ?_⟩
  refine ad_init (Nat.le_refl 9) (Nat.le_refl 180) (fun c3 g3 => ?_)
  have q0 : ad_h8 (fun _ => 0) (fun _ => 0) := fun j _ => ⟨rfl, show 0 < 256 by decide⟩
  have q4 : ad_h4 (fun _ => 0) (fun _ => 0) := fun k _ w _ => (ad_W0 w).symm
  have second : ∀ (e1 : Int32) (e2 : Int32) (c1 c2 : Nat → Int32), e1 = nI (ad_bit a) → e2 = 0 → ad_h8 c1 (fun _ => 0) → ad_h8 c2 (fun _ => 0) → wpX_put (fun r u => match u with | (f0, f1, f2, a1, a2, a3, a4, a5, a6, a7, a8, a9) => (((x5 = 0 → (wL_lawOf_375 post mc ms x0 x1 x2 x3 x5 x7 x8 x11 x16 z0 r (kc + 1 + 9) (ks + 12 + 180) f0 f1 f2 a1 a2 a3 a4 a5 a6 a7 a8 a9)) ∧ (¬ x5 = 0 → (((x6 = 0 → (wL_lawOf_376 post mc ms x0 x1 x2 x3 x5 x7 x8 x11 x16 z0 1 r (kc + 1 + 9) (ks + 12 + 180) f0 f1 f2 a1 a2 a3 a4 a5 a6 a7 a8 a9)) ∧ (¬ x6 = 0 → (wL_lawOf_375 post mc ms x0 x1 x2 x3 x5 x7 x8 x11 x16 z0 r (kc + 1 + 9) (ks + 12 + 180) f0 f1 f2 a1 a2 a3 a4 a5 a6 a7 a8 a9)))))))) (e1, e2, 0, c1, c2, c3, (fun _ => 0), (fun _ => 0), (fun _ => 0), (fun _ => 0), (fun _ => 0), (fun _ => 0)) x1 1 := by
    intro e1 e2 c1 c2 he1 he2 g1 g2
    refine ad_put hx1 (ad_t3 a ha).1 he1 g1 g2 (fun h => ?_) (fun h8' h d1 d2 k1 k2 => ?_)
    · obtain ⟨ep, ho⟩ := ad_t1 a ha b hb h
      have fin : wL_lawOf_375 post mc ms x0 x1 x2 x3 x5 x7 x8 x11 x16 z0 0 (kc + 1 + 9) (ks + 12 + 180) e1 e2 0 c1 c2 c3 (fun _ => 0) (fun _ => 0) (fun _ => 0) (fun _ => 0) (fun _ => 0) (fun _ => 0) := by
        unfold wL_lawOf_375
        exact ad_l376 hx0 hx1 ha hb hx2 hx3 h5 h7 h8 h11 h16 hz rfl (by rw [he1, ep]) he2 g1 g2 g3 q4 H
      refine ⟨fun _ => fin, fun h5' => ⟨fun h6' => ?_, fun _ => fin⟩⟩
      have hone : ad_one b = true := by
        cases e : ad_one b with
        | true => rfl
        | false => rw [h5, e] at h5'; exact absurd rfl h5'
      rcases ho with ho | ho
      · rw [ho] at hone
        exact absurd hone (by decide)
      · rw [h6, hsm hone, ho] at h6'
        exact absurd h6' (by decide)
    · obtain ⟨ep, hne, hone⟩ := ad_t2 a ha b h8' h
      have fin : wL_lawOf_376 post mc ms x0 x1 x2 x3 x5 x7 x8 x11 x16 z0 1 1 (kc + 1 + 9) (ks + 12 + 180) (nI (ad_bit a ^^^ 2 ^ b)) 0 0 d1 d2 c3 (fun _ => 0) (fun _ => 0) (fun _ => 0) (fun _ => 0) (fun _ => 0) (fun _ => 0) :=
        ad_l376 hx0 hx1 ha hb hx2 hx3 h5 h7 h8 h11 h16 hz rfl (by rw [ep]) rfl k1 k2 g3 q4 H
      refine ⟨fun h5' => ?_, fun _ => ⟨fun _ => fin, fun h6' => ?_⟩⟩
      · rw [h5, hone] at h5'
        exact absurd h5' (by decide)
      · rw [h6, hsm hone, hne] at h6'
        exact absurd rfl h6'
  refine ad_put hx0 (p := 0) (by decide) rfl q0 q0 (fun h => ?_) (fun h8' h d1 d2 k1 k2 => ?_)
  · have e8 : a = 8 := by
      rcases h with h | h
      · exact h
      · rw [Nat.zero_testBit] at h
        exact absurd h (by decide)
    subst e8
    exact br_t h4'.symm (second _ _ _ _ rfl rfl q0 q0)
  · have e := ad_t4 a h8'
    rw [Nat.zero_xor]
    exact br_t (by rw [h4', e.1]; rfl) (second _ _ _ _ (by rw [e.2]) rfl k1 k2)
theorem ad_n313 {rr V : Bool} (hs : s < 256) (hb : b < 9) (h3 : x3 = nI s) (h9 : x9 = nI (ad_bit b)) (h15 : x15 = ad_bi rr) (hV : V = (rr && decide (s = ad_bit b))) (H : wL_lawOf_329 post mc ms x0 x1 x2 x3 x4 x5 x6 x7 x8 x11 x16 (ad_bi V) kc ks) : wL_lawOf_313 post mc ms x0 x1 x2 x3 x4 x5 x6 x7 x8 x9 x11 x15 x16 kc ks := by
  have b9 := (ad_t3 b hb).1
  subst h15
  unfold wL_lawOf_313
  refine ad_bz (fun e => ?_) (fun e => ?_)
  · have : V = false := by rw [hV, e]; rfl
    rw [this] at H
    exact H
  · refine pk_eq s (ad_bit b) (fun z => ?_) (fun z => ?_) h3 h9
    · have : V = true := by rw [hV, e, decide_eq_true z]; rfl
      rw [this] at H
      exact H
    · have : V = false := by rw [hV, e, decide_eq_false z]; rfl
      rw [this] at H
      exact H
theorem ad_n298 {lf rr V : Bool} (hs : s < 256) (s0 : s ≠ 0) (ha : a < 9) (hb : b < 9) (h3 : x3 = nI s) (h8 : x8 = nI (ad_bit a)) (h9 : x9 = nI (ad_bit b)) (h14 : x14 = ad_bi lf) (h15 : x15 = ad_bi rr) (hV : V = ((lf && decide (s = ad_bit a)) || (rr && decide (s = ad_bit b)))) (H : wL_lawOf_329 post mc ms x0 x1 x2 x3 x4 x5 x6 x7 x8 x11 x16 (ad_bi V) kc ks) : wL_lawOf_298 post mc ms x0 x1 x2 x3 x4 x5 x6 x7 x8 x9 x11 x14 x15 x16 kc ks := by
  have a9' := (ad_t3 a ha).1
  subst h14
  unfold wL_lawOf_298
  refine br_f (by rw [h3]; exact nI_ne0 (by omega) (by omega)) (ad_bz (fun e => ?_) (fun e => ?_))
  · exact ad_n313 hs hb h3 h9 h15 (by rw [hV, e]; rfl) H
  · refine pk_eq s (ad_bit a) (fun z => ?_) (fun z => ?_) h3 h8
    · have : V = true := by rw [hV, e, decide_eq_true z]; rfl
      rw [this] at H
      exact H
    · exact ad_n313 hs hb h3 h9 h15 (by rw [hV, e, decide_eq_false z]; rfl) H
theorem ad_n277 {nn rr : Bool} (hx3 : ad_st x3 (ad_p a b) s) (ha : a < 9) (hb : b < 9) (h7 : x7 = ad_bi (decide (k < 12))) (h8 : x8 = nI (ad_bit a)) (h9 : x9 = nI (ad_bit b)) (h13 : x13 = ad_bi nn) (hn : k < 12 → nn = ad_non a b k) (h14 : x14 = ad_bi (ad_lft a b)) (h15 : x15 = ad_bi rr) (hr : k < 12 → rr = ad_rgt a b k) (hz : z0 = ad_bi (decide (s < 256))) (H : wL_lawOf_329 post mc ms x0 x1 x2 x3 x4 x5 x6 x7 x8 x11 x16 (ad_bi (decide (k < 12) && (decide (s < 256) && (ad_e a b k).testBit s))) kc ks) : wL_lawOf_277 post mc ms x0 x1 x2 x3 x4 x5 x6 x7 x8 x9 x11 x13 x14 x15 x16 z0 kc ks := by
  subst hz h13
  have h7' := h7
  unfold wL_lawOf_277
  rw [h7]
  refine ad_bz (fun e => ?_) (fun e => ad_bz (fun e2 => ?_) (fun e2 => ?_))
  · rw [e, Bool.false_and, h7'] at H
    exact H
  · rw [e2, Bool.false_and, Bool.and_false, h7'] at H
    exact H
  · have hk : k < 12 := of_decide_eq_true e
    have hs : s < 256 := of_decide_eq_true e2
    have h3 : x3 = nI s := by
      rcases hx3 with ⟨_, h, _⟩ | ⟨h, _⟩
      · exact h
      · omega
    rw [e, e2, Bool.true_and, Bool.true_and, ad_tbe, ← hn hk, ← hr hk] at H
    rw [← h7]
    by_cases s0 : s = 0
    · have l0 : (ad_lft a b && decide (s = ad_bit a)) = false := by
        cases t : ad_lft a b with
        | false => rfl
        | true =>
          have t1 : ad_one a = true := by
            unfold ad_lft at t
            cases u : ad_one a with
            | true => rfl
            | false => rw [u, Bool.false_and] at t; exact absurd t (by decide)
          rw [Bool.true_and]
          exact decide_eq_false (fun z => (ad_t3 a ha).2 t1 (z.symm.trans s0))
      have r0 : (rr && decide (s = ad_bit b)) = false := by
        rw [hr hk]
        cases t : ad_rgt a b k with
        | false => rfl
        | true =>
          have t1 : ad_one b = true := by
            unfold ad_rgt at t
            cases u : ad_one b with
            | true => rfl
            | false => rw [u, Bool.false_and] at t; exact absurd t (by decide)
          rw [Bool.true_and]
          exact decide_eq_false (fun z => (ad_t3 b hb).2 t1 (z.symm.trans s0))
      rw [l0, r0, decide_eq_true s0, Bool.and_true, Bool.or_false, Bool.or_false] at H
      have x30 : x3 = 0 := by rw [h3, s0]; rfl
      refine br_t x30 (ad_bz (fun t => ?_) (fun t => ?_))
      · rw [t] at H
        unfold wL_lawOf_298
        exact br_t x30 H
      · rw [t] at H
        exact H
    · rw [decide_eq_false s0, Bool.and_false, Bool.false_or] at H
      exact br_f (by rw [h3]; exact nI_ne0 (by omega) (by omega)) (ad_n298 hs s0 ha hb h3 h8 h9 h14 h15 rfl H)
theorem ad_n249 (hx3 : ad_st x3 (ad_p a b) s) (ha : a < 9) (hb : b < 9) (h10 : x10 = nI (ad_p a b)) (H : ∀ y, y = z1 + z0 → wL_lawOf_277 post mc ms x0 x1 x2 x3 x4 x5 x6 x7 x8 x9 x11 x13 x14 x15 y (ad_bi (decide (s < 256))) kc ks) : wL_lawOf_249 post mc ms x0 x1 x2 x3 x4 x5 x6 x7 x8 x9 x10 x11 x13 x14 x15 z0 z1 kc ks := by
  subst h10
  unfold wL_lawOf_249
  intro y hy
  have H := H y hy
  rcases hx3 with ⟨hs, h, hc⟩ | ⟨h, hc⟩
  · rw [decide_eq_true hs] at H
    exact br_f (by rw [h]; exact nI_pos (by omega)) (br_f (by rw [h]; exact nI_nlt (a := 255) (by omega) (by decide)) (br_t hc H))
  · rw [h] at H
    exact br_c (fun _ => H) (fun h0 => br_c (fun _ => H) (fun _ => br_f (hc h0) H))
theorem ad_duI {k a b : Nat} : (ad_bi (ad_non a b k) + ad_bi (ad_lft a b)) + ad_bi (ad_rgt a b k) = nI (ad_due a b k) := by
  unfold ad_due
  cases ad_non a b k <;> cases ad_lft a b <;> cases ad_rgt a b k <;> decide
theorem ad_n228 {rr : Bool} (h14 : x14 = ad_bi (ad_lft a b)) (h15 : x15 = ad_bi rr) (H : wL_lawOf_249 post mc ms x0 x1 x2 x3 x4 x5 x6 x7 x8 x9 x10 x11 x13 x14 x15 (ad_bi rr) (z0 + ad_bi (ad_lft a b)) kc ks) : wL_lawOf_228 post mc ms x0 x1 x2 x3 x4 x5 x6 x7 x8 x9 x10 x11 x13 x14 x15 z0 kc ks := by
  unfold wL_lawOf_228
  have K : wL_lawOf_238 post mc ms x0 x1 x2 x3 x4 x5 x6 x7 x8 x9 x10 x11 x13 x14 x15 (ad_bi (ad_lft a b)) z0 kc ks := by
    unfold wL_lawOf_238
    constructor
    · intro e
      cases rr with
      | false => exact H
      | true => rw [h15] at e; exact absurd e (by decide)
    · intro e
      cases rr with
      | false => rw [h15] at e; exact absurd rfl e
      | true => exact H
  constructor
  · intro e
    cases t : ad_lft a b with
    | false => rw [t] at K; exact K
    | true => rw [h14, t] at e; exact absurd e (by decide)
  · intro e
    cases t : ad_lft a b with
    | false => rw [h14, t] at e; exact absurd rfl e
    | true => rw [t] at K; exact K
theorem ad_n206 {nn : Bool} (ha : a < 9) (hb : b < 9) (h10 : x10 = nI (ad_p a b)) (h13 : x13 = ad_bi nn) (H : ∀ d : Bool, (k < 12 → nn = ad_non a b k → d = ad_non a b k) → wL_lawOf_228 post mc ms x0 x1 x2 x3 x4 x5 x6 x7 x8 x9 x10 x11 x13 x14 z0 (ad_bi d) kc ks) : wL_lawOf_206 post mc ms x0 x1 x2 x3 x4 x5 x6 x7 x8 x9 x10 x11 x13 x14 z0 kc ks := by
  have hp : ad_p a b < 256 := ad_p256 a ha b hb
  have e10 : x10 = 0 ↔ ad_p a b = 0 := ad_eq0 h10 hp
  have nz : ad_p a b = 0 → ad_non a b k = true := fun h => by
    unfold ad_non
    rw [h]
    rfl
  unfold wL_lawOf_206
  constructor
  · intro e
    have n0 : nn = false := by
      cases nn with
      | false => rfl
      | true => rw [h13] at e; exact absurd e (by decide)
    unfold wL_lawOf_218
    constructor
    · intro e0
      exact H true (fun _ _ => (nz (e10.mp e0)).symm)
    · intro e0
      exact H false (fun _ h => n0.symm.trans h)
  · intro e
    have n1 : nn = true := by
      cases nn with
      | true => rfl
      | false => rw [h13] at e; exact absurd rfl e
    constructor
    · intro e0
      unfold wL_lawOf_218
      exact br_t e0 (H true (fun _ h => n1.symm.trans h))
    · intro _
      exact H true (fun _ h => n1.symm.trans h)
theorem ad_n174 {sm : Bool} (hx2 : ad_se x2 k) (h4 : x4 = ad_bi (ad_one a)) (h5 : x5 = ad_bi (ad_one b)) (h6 : x6 = ad_bi sm) (hsm : ad_one b = true → sm = Nat.beq a b) (H : ∀ r : Bool, (k < 12 → r = ad_rgt a b k) → wL_lawOf_206 post mc ms x0 x1 x2 x3 x4 x5 x6 x7 x8 x9 x10 x11 x13 z0 (ad_bi r) kc ks) : wL_lawOf_174 post mc ms x0 x1 x2 x3 x4 x5 x6 x7 x8 x9 x10 x11 x13 z0 kc ks := by
  have e2 : ∀ n, n < 12 → k < 12 → (x2 = nI n ↔ k = n) := fun n hn hk => by
    rcases hx2 with ⟨_, h⟩ | ⟨h, _⟩
    · rw [h]
      exact nI_eq (by omega) (by omega)
    · omega
  unfold wL_lawOf_174
  constructor
  · intro e
    refine H false (fun _ => ?_)
    unfold ad_rgt
    cases t : ad_one b with
    | false => rfl
    | true => rw [h5, t] at e; exact absurd e (by decide)
  · intro e
    have ob : ad_one b = true := by
      cases t : ad_one b with
      | true => rfl
      | false => rw [h5, t] at e; exact absurd rfl e
    have hs := hsm ob
    constructor
    · intro e6
      have nb : Nat.beq a b = false := by
        cases t : Nat.beq a b with
        | false => rfl
        | true => rw [h6, hs, t] at e6; exact absurd e6 (by decide)
      constructor
      · intro e0
        refine H true (fun hk => ?_)
        have k0 : k = 0 := (e2 0 (by decide) hk).mp e0
        unfold ad_rgt
        rw [ob, nb, k0]
        rfl
      · intro e0
        constructor
        · intro e8
          refine H true (fun hk => ?_)
          have k8 : k = 8 := (e2 8 (by decide) hk).mp e8
          unfold ad_rgt
          rw [ob, nb, k8]
          rfl
        · intro e8
          constructor
          · intro e4
            refine H true (fun hk => ?_)
            have oa : ad_one a = false := by
              cases t : ad_one a with
              | false => rfl
              | true => rw [h4, t] at e4; exact absurd e4 (by decide)
            unfold ad_rgt
            rw [ob, nb, oa]
            simp
          · intro e4
            refine H false (fun hk => ?_)
            have oa : ad_one a = true := by
              cases t : ad_one a with
              | true => rfl
              | false => rw [h4, t] at e4; exact absurd rfl e4
            have k0 : Nat.beq k 0 = false := by
              cases t : Nat.beq k 0 with
              | false => rfl
              | true => exact absurd ((e2 0 (by decide) hk).mpr (Nat.eq_of_beq_eq_true t)) e0
            have k8 : Nat.beq k 8 = false := by
              cases t : Nat.beq k 8 with
              | false => rfl
              | true => exact absurd ((e2 8 (by decide) hk).mpr (Nat.eq_of_beq_eq_true t)) e8
            unfold ad_rgt
            rw [ob, nb, oa, k0, k8]
            rfl
    · intro e6
      refine H false (fun _ => ?_)
      have nb : Nat.beq a b = true := by
        cases t : Nat.beq a b with
        | true => rfl
        | false => rw [h6, hs, t] at e6; exact absurd rfl e6
      unfold ad_rgt
      rw [ob, nb]
      rfl
theorem ad_n157 (h4 : x4 = ad_bi (ad_one a)) (h12 : x12 = ad_bi (ad_slf a b)) (H : wL_lawOf_174 post mc ms x0 x1 x2 x3 x4 x5 x6 x7 x8 x9 x10 x11 z0 (ad_bi (ad_lft a b)) kc ks) : wL_lawOf_157 post mc ms x0 x1 x2 x3 x4 x5 x6 x7 x8 x9 x10 x11 x12 z0 kc ks := by
  unfold wL_lawOf_157
  unfold ad_lft at H
  constructor
  · intro e
    have oa : ad_one a = false := by
      cases t : ad_one a with
      | false => rfl
      | true => rw [h4, t] at e; exact absurd e (by decide)
    rw [oa] at H
    exact H
  · intro e
    have oa : ad_one a = true := by
      cases t : ad_one a with
      | true => rfl
      | false => rw [h4, t] at e; exact absurd rfl e
    rw [oa] at H
    constructor
    · intro e2
      have sl : ad_slf a b = false := by
        cases t : ad_slf a b with
        | false => rfl
        | true => rw [h12, t] at e2; exact absurd e2 (by decide)
      rw [sl] at H
      exact H
    · intro e2
      have sl : ad_slf a b = true := by
        cases t : ad_slf a b with
        | true => rfl
        | false => rw [h12, t] at e2; exact absurd rfl e2
      rw [sl] at H
      exact H
theorem ad_n130 (ha : a < 9) (hb : b < 9) (hx2 : ad_se x2 k) (h10 : x10 = nI (ad_p a b)) (hz : z0 = ad_bi (ad_slf a b)) (H : ∀ n : Bool, (k < 12 → n = ad_non a b k) → wL_lawOf_157 post mc ms x0 x1 x2 x3 x4 x5 x6 x7 x8 x9 x10 x11 z0 (ad_bi n) kc ks) : wL_lawOf_130 post mc ms x0 x1 x2 x3 x4 x5 x6 x7 x8 x9 x10 x11 z0 kc ks := by
  have hp : ad_p a b < 256 := ad_p256 a ha b hb
  have e10 : x10 = 0 ↔ ad_p a b = 0 := ad_eq0 h10 hp
  have n147 : (k < 12 → (Nat.beq (ad_p a b) 0 || (ad_slf a b && !(Nat.beq k 5))) = false) → wL_lawOf_147 post mc ms x0 x1 x2 x3 x4 x5 x6 x7 x8 x9 x10 x11 z0 kc ks := by
    intro q
    unfold wL_lawOf_147
    constructor
    · intro e
      refine H false (fun hk => ?_)
      have k1 : Nat.ble k 1 = false := by
        cases t : Nat.ble k 1 with
        | false => rfl
        | true =>
          have t1 : k ≤ 1 := Nat.le_of_ble_eq_true t
          rcases hx2 with ⟨_, h⟩ | ⟨h, _⟩
          · rw [h] at e
            exact absurd e (nI_nlt (a := 1) (b := k) t1 (by decide))
          · omega
      unfold ad_non
      rw [q hk, k1]
      rfl
    · intro e
      refine H true (fun hk => ?_)
      have k1 : Nat.ble k 1 = true := by
        rcases hx2 with ⟨_, h⟩ | ⟨h, _⟩
        · rw [h] at e
          cases t : Nat.ble k 1 with
          | true => rfl
          | false =>
            have t1 : ¬ k ≤ 1 := fun z => by
              rw [Nat.ble_eq_true_of_le z] at t
              exact absurd t (by decide)
            exact absurd (nI_lt (a := 1) (b := k) (by omega) (by omega)) e
        · omega
      unfold ad_non
      rw [k1, Bool.or_true]
  unfold wL_lawOf_130
  constructor
  · intro e
    refine H true (fun _ => ?_)
    unfold ad_non
    rw [e10.mp e]
    rfl
  · intro e
    have p0 : Nat.beq (ad_p a b) 0 = false := by
      cases t : Nat.beq (ad_p a b) 0 with
      | false => rfl
      | true => exact absurd (e10.mpr (Nat.eq_of_beq_eq_true t)) e
    constructor
    · intro e2
      have sl : ad_slf a b = false := by
        cases t : ad_slf a b with
        | false => rfl
        | true => rw [hz, t] at e2; exact absurd e2 (by decide)
      refine n147 (fun _ => ?_)
      rw [p0, sl]
      rfl
    · intro e2
      have sl : ad_slf a b = true := by
        cases t : ad_slf a b with
        | true => rfl
        | false => rw [hz, t] at e2; exact absurd rfl e2
      constructor
      · intro e5
        refine n147 (fun hk => ?_)
        have k5 : k = 5 := by
          rcases hx2 with ⟨_, h⟩ | ⟨h, _⟩
          · rw [h] at e5
            exact (nI_eq (a := k) (b := 5) (by omega) (by decide)).mp e5
          · omega
        rw [p0, sl, k5]
        rfl
      · intro e5
        refine H true (fun hk => ?_)
        have k5 : Nat.beq k 5 = false := by
          cases t : Nat.beq k 5 with
          | false => rfl
          | true =>
            rcases hx2 with ⟨_, h⟩ | ⟨h, _⟩
            · rw [h, Nat.eq_of_beq_eq_true t] at e5
              exact absurd rfl e5
            · omega
        unfold ad_non
        rw [p0, sl, k5]
        rfl
theorem ad_n113 {sm : Bool} (h6 : x6 = ad_bi sm) (hsm : ad_one b = true → sm = Nat.beq a b) (hz : z0 = ad_bi (ad_ht a b)) (H : wL_lawOf_130 post mc ms x0 x1 x2 x3 x4 x5 x6 x7 x8 x9 x10 z0 (ad_bi (ad_slf a b)) kc ks) : wL_lawOf_113 post mc ms x0 x1 x2 x3 x4 x5 x6 x7 x8 x9 x10 z0 kc ks := by
  unfold wL_lawOf_113
  unfold ad_slf at H
  constructor
  · intro e
    have h0 : ad_ht a b = false := by
      cases t : ad_ht a b with
      | false => rfl
      | true => rw [hz, t] at e; exact absurd e (by decide)
    rw [h0] at H
    exact H
  · intro e
    have h1 : ad_ht a b = true := by
      cases t : ad_ht a b with
      | true => rfl
      | false => rw [hz, t] at e; exact absurd rfl e
    have ob : ad_one b = true := by
      unfold ad_ht at h1
      cases t : ad_one b with
      | true => rfl
      | false => rw [t, Bool.and_false] at h1; exact absurd h1 (by decide)
    rw [h1, Bool.true_and, ← hsm ob] at H
    constructor
    · intro e2
      cases sm with
      | false => exact H
      | true => rw [h6] at e2; exact absurd e2 (by decide)
    · intro e2
      cases sm with
      | true => exact H
      | false => rw [h6] at e2; exact absurd rfl e2
theorem ad_n89 (h4 : x4 = ad_bi (ad_one a)) (h5 : x5 = ad_bi (ad_one b)) (h8 : x8 = nI (ad_bit a)) (hz : z0 = nI (ad_bit b)) (H : ∀ y, y = nI (ad_p a b) → wL_lawOf_113 post mc ms x0 x1 x2 x3 x4 x5 x6 x7 x8 z0 y (ad_bi (ad_ht a b)) kc ks) : wL_lawOf_89 post mc ms x0 x1 x2 x3 x4 x5 x6 x7 x8 z0 kc ks := by
  unfold wL_lawOf_89
  intro y hy
  have H := H y (by rw [hy, h8, hz, ad_or]; rfl)
  unfold ad_ht at H
  constructor
  · intro e
    have oa : ad_one a = false := by
      cases t : ad_one a with
      | false => rfl
      | true => rw [h4, t] at e; exact absurd e (by decide)
    rw [oa] at H
    exact H
  · intro e
    have oa : ad_one a = true := by
      cases t : ad_one a with
      | true => rfl
      | false => rw [h4, t] at e; exact absurd rfl e
    rw [oa, Bool.true_and] at H
    constructor
    · intro e2
      have ob : ad_one b = false := by
        cases t : ad_one b with
        | false => rfl
        | true => rw [h5, t] at e2; exact absurd e2 (by decide)
      rw [ob] at H
      exact H
    · intro e2
      have ob : ad_one b = true := by
        cases t : ad_one b with
        | true => rfl
        | false => rw [h5, t] at e2; exact absurd rfl e2
      rw [ob] at H
      exact H
theorem ad_obit {x : Int32} {a : Nat} (hx : ad_ar x a) : (ad_one a = false → nI (ad_bit a) = 0) ∧ (ad_one a = true → nI (ad_bit a) = (1 : Int32) <<< (x &&& 31)) := by
  rcases hx with ⟨h, rfl⟩ | ⟨rfl, _⟩
  · have t := ad_t4 a h
    refine ⟨fun e => absurd (t.1.symm.trans e) (by decide), fun _ => ?_⟩
    rw [t.2, ad_one32 a h]
  · exact ⟨fun _ => rfl, fun e => absurd e (by decide)⟩
theorem ad_n75 (hx1 : ad_ar x1 b) (h5 : x5 = ad_bi (ad_one b)) (H : wL_lawOf_89 post mc ms x0 x1 x2 x3 x4 x5 x6 x7 z0 (nI (ad_bit b)) kc ks) : wL_lawOf_75 post mc ms x0 x1 x2 x3 x4 x5 x6 x7 z0 kc ks := by
  unfold wL_lawOf_75
  constructor
  · intro e
    cases t : ad_one b with
    | false => rw [(ad_obit hx1).1 t] at H; exact H
    | true => rw [h5, t] at e; exact absurd e (by decide)
  · intro e
    cases t : ad_one b with
    | true => rw [(ad_obit hx1).2 t] at H; exact H
    | false => rw [h5, t] at e; exact absurd rfl e
theorem ad_n61 (hx0 : ad_ar x0 a) (h4 : x4 = ad_bi (ad_one a)) (H : wL_lawOf_75 post mc ms x0 x1 x2 x3 x4 x5 x6 z0 (nI (ad_bit a)) kc ks) : wL_lawOf_61 post mc ms x0 x1 x2 x3 x4 x5 x6 z0 kc ks := by
  unfold wL_lawOf_61
  constructor
  · intro e
    cases t : ad_one a with
    | false => rw [(ad_obit hx0).1 t] at H; exact H
    | true => rw [h4, t] at e; exact absurd e (by decide)
  · intro e
    cases t : ad_one a with
    | true => rw [(ad_obit hx0).2 t] at H; exact H
    | false => rw [h4, t] at e; exact absurd rfl e
theorem ad_n44 (hx2 : ad_se x2 k) (H : wL_lawOf_61 post mc ms x0 x1 x2 x3 x4 x5 z0 (ad_bi (decide (k < 12))) kc ks) : wL_lawOf_44 post mc ms x0 x1 x2 x3 x4 x5 z0 kc ks := by
  unfold wL_lawOf_44
  rcases hx2 with ⟨hk, h⟩ | ⟨hk, h⟩
  · rw [decide_eq_true hk] at H
    exact br_f (by rw [h]; exact nI_pos (by omega)) (br_f (by rw [h]; exact nI_nlt (a := 11) (by omega) (by decide)) H)
  · rw [decide_eq_false (by omega)] at H
    refine br_c (fun _ => H) (fun h0 => br_t ?_ H)
    rcases h with h | h
    · exact absurd h h0
    · exact h
theorem ad_n15 (hx1 : ad_ar x1 b) (H : wL_lawOf_32 post mc ms x0 x1 x2 x3 z0 (ad_bi (ad_one b)) kc ks) : wL_lawOf_15 post mc ms x0 x1 x2 x3 z0 kc ks := by
  unfold wL_lawOf_15
  rcases hx1 with ⟨h8, h⟩ | ⟨h8, h⟩
  · rw [(ad_t4 b h8).1] at H
    exact br_f (by rw [h]; exact nI_pos (by omega)) (br_f (by rw [h]; exact nI_nlt (a := 7) (by omega) (by decide)) H)
  · rw [h8] at H
    refine br_c (fun _ => H) (fun h0 => br_t ?_ H)
    rcases h with h | h
    · exact absurd h h0
    · exact h
theorem ad_n0 (hx0 : ad_ar x0 a) (H : wL_lawOf_15 post mc ms x0 x1 x2 x3 (ad_bi (ad_one a)) 0 0) : wpL_lawOf post mc ms () x0 x1 x2 x3 := by
  unfold wpL_lawOf
  rcases hx0 with ⟨h8, h⟩ | ⟨h8, h⟩
  · rw [(ad_t4 a h8).1] at H
    exact br_f (by rw [h]; exact nI_pos (by omega)) (br_f (by rw [h]; exact nI_nlt (a := 7) (by omega) (by decide)) H)
  · rw [h8] at H
    refine br_c (fun _ => H) (fun h0 => br_t ?_ H)
    rcases h with h | h
    · exact absurd h h0
    · exact h
theorem ad_sme (hx0 : ad_ar x0 a) (hx1 : ad_ar x1 b) (ob : ad_one b = true) : decide (x0 = x1) = Nat.beq a b := by
  have b8 : b < 8 := by
    have := Nat.le_of_ble_eq_true ob
    omega
  have e1 : x1 = nI b := by
    rcases hx1 with ⟨_, h⟩ | ⟨h, _⟩
    · exact h
    · omega
  rcases hx0 with ⟨a8, h⟩ | ⟨a8, h⟩
  · cases t : Nat.beq a b with
    | true => exact decide_eq_true (by rw [h, e1, Nat.eq_of_beq_eq_true t])
    | false =>
      refine decide_eq_false (fun z => ?_)
      rw [h, e1, nI_eq (by omega) (by omega)] at z
      rw [z, Nat.beq_refl] at t
      exact absurd t (by decide)
  · cases t : Nat.beq a b with
    | true =>
      have := Nat.eq_of_beq_eq_true t
      omega
    | false =>
      refine decide_eq_false (fun z => ?_)
      rw [z, e1] at h
      rcases h with h | h
      · exact nI_pos (by omega) h
      · exact nI_nlt (a := 7) (b := b) (by omega) (by decide) h
theorem ad_lawOf (x0 x1 x2 x3 : Int32) (hmc : 10 ≤ mc) (hms : 192 ≤ ms) (H : post 1 ()) : wpL_lawOf post mc ms () x0 x1 x2 x3 := by
  obtain ⟨a, ha, hx0⟩ := ad_arx x0
  obtain ⟨b, hb, hx1⟩ := ad_arx x1
  obtain ⟨k, hx2⟩ := ad_sex x2
  obtain ⟨s, hx3⟩ := ad_stx x3 (ad_p256 a ha b hb)
  refine ad_n0 hx0 (ad_n15 hx1 ?_)
  have main : ∀ sm : Bool, (ad_one b = true → sm = Nat.beq a b) → wL_lawOf_44 post mc ms x0 x1 x2 x3 (ad_bi (ad_one a)) (ad_bi (ad_one b)) (ad_bi sm) 0 0 := by
    intro sm hsm
    refine ad_n44 hx2 (ad_n61 hx0 rfl (ad_n75 hx1 rfl (ad_n89 rfl rfl rfl rfl (fun y hy => ?_))))
    refine ad_n113 rfl hsm rfl (ad_n130 ha hb hx2 hy rfl (fun nn hn => ?_))
    refine ad_n157 rfl rfl (ad_n174 hx2 rfl rfl rfl hsm (fun rr hr => ?_))
    refine ad_n206 (k := k) ha hb hy rfl (fun d hd => ?_)
    refine ad_n228 rfl rfl (ad_n249 hx3 ha hb hy (fun v hv => ?_))
    refine ad_n277 hx3 ha hb rfl rfl rfl rfl hn rfl rfl hr rfl ?_
    refine ad_l329 hx0 hx1 ha hb hx2 hx3 rfl rfl rfl hsm rfl rfl rfl (fun hk => ?_) rfl (by omega) (by omega) H
    rw [hv, hd hk (hn hk), hr hk]
    exact ad_duI
  unfold wL_lawOf_32
  constructor
  · intro e
    exact main true (fun ob => by rw [← ad_sme hx0 hx1 ob, decide_eq_true e])
  · intro e
    exact main false (fun ob => by rw [← ad_sme hx0 hx1 ob, decide_eq_false e])
theorem ad_cell {P : Int32 → Prop} {L : Nat} {xs : Nat → Int32} {x : Int32} (i : Nat) (hL : L ≤ 4) (hi : i < 4) (H : ∀ r, P r) (hx : x = nI i := by rfl) : wpL_cellAt P L xs () x := by
  unfold wpL_cellAt
  exact pk_le L i (fun _ => H _) (fun z => ⟨pk_in i L z hx, H _⟩) rfl hx
end
theorem i_vc (xs : Nat → Int32) (L : Nat) (hL : L ≤ 4) : wpL_law (fun r => r = 1) L xs := by
  unfold wpL_law
  exact ad_cell 0 hL (by decide) (fun r1 => ad_cell 1 hL (by decide) (fun r2 => ad_cell 2 hL (by decide) (fun r3 => ad_cell 3 hL (by decide) (fun r4 => ⟨140, 2240, by decide, by decide, ad_lawOf r1 r2 r3 r4 (by decide) (by decide) rfl⟩))))
end
