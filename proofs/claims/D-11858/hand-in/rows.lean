section
/-! The pure picture. Arrays of 7 places are packed into a natural, 8 bits a place; a partner p is kept as p + 1 (0: none).
    The model of a method that may fail takes what comes behind it as a function to Bool and answers false where an index would be out of range. All numbers by the kernel's own operations. -/
noncomputable def dm_g (A i : Nat) : Nat := Nat.land (Nat.shiftRight A (Nat.mul 8 i)) 255
noncomputable def dm_p (A i v : Nat) : Nat := Nat.xor A (Nat.shiftLeft (Nat.xor (dm_g A i) v) (Nat.mul 8 i))
noncomputable def dm_b (x c : Nat) : Nat := Nat.land (Nat.shiftRight x c) 1
/-- a if n is 0, else b -/
noncomputable def dm_z {α : Type} (n : Nat) (a b : α) : α := Nat.rec (motive := fun _ => α) a (fun _ _ => b) n
/-- f n, n brought to a numeral first -/
noncomputable def dm_f (n : Nat) (f : Nat → Bool) : Bool := Nat.rec (motive := fun _ => Bool) (f 0) (fun k _ => f (Nat.succ k)) n
noncomputable def dm_nz (n : Nat) : Nat := Nat.sub 1 (Nat.sub 1 n)
/-! sets -/
noncomputable def dm_poc (P s n : Nat) : Nat := Nat.rec (motive := fun _ => Nat) 0 (fun c x => Nat.lor x (Nat.mul (dm_b s c) (Nat.shiftRight (Nat.shiftLeft 1 (dm_g P c)) 1))) n
noncomputable def dm_cnt (E s n : Nat) : Nat := Nat.rec (motive := fun _ => Nat) 0 (fun r x => Nat.lor x (Nat.mul (dm_b s r) (dm_g E r))) n
noncomputable def dm_rwe (E c n : Nat) : Nat := Nat.rec (motive := fun _ => Nat) 0 (fun r x => Nat.lor x (Nat.shiftLeft (dm_b (dm_g E r) c) r)) n
noncomputable def dm_rnt (E s n : Nat) : Nat := Nat.rec (motive := fun _ => Nat) 0 (fun c x => Nat.lor x (Nat.mul (dm_b s c) (dm_rwe E c 7))) n
noncomputable def dm_fre (P n : Nat) : Nat := Nat.rec (motive := fun _ => Nat) 0 (fun i x => Nat.lor x (Nat.shiftLeft (Nat.sub 1 (dm_g P i)) i)) n
/-! findReach -/
noncomputable def dm_rd (E PR PC : Nat) (K : Nat → Nat → Nat → Nat → Bool) (k : Nat) : Nat → Nat → Nat → Nat → Bool :=
  Nat.rec (motive := fun _ => Nat → Nat → Nat → Nat → Bool) (fun rfr cfr rfc cfc => K rfr cfr rfc cfc)
    (fun _ ih rfr _ _ cfc => dm_f (dm_cnt E rfr 7) (fun cfr' => dm_f (Nat.lor rfr (dm_poc PC cfr' 7)) (fun rfr' => dm_f (dm_rnt E cfc 7) (fun rfc' => dm_f (Nat.lor cfc (dm_poc PR rfc' 7)) (fun cfc' => ih rfr' cfr' rfc' cfc'))))) k
noncomputable def dm_re0 (E PC RE n : Nat) : Nat := Nat.rec (motive := fun _ => Nat) RE (fun r A => dm_p A r (dm_poc PC (dm_g E r) 7)) n
noncomputable def dm_wi (m RE n : Nat) : Nat := Nat.rec (motive := fun _ => Nat) RE (fun r A => dm_p A r (Nat.lor (dm_g A r) (Nat.mul (dm_b (dm_g A r) m) (dm_g A m)))) n
noncomputable def dm_wo (RE n : Nat) : Nat := Nat.rec (motive := fun _ => Nat) RE (fun m A => dm_wi m A 7) n
/-! findUsable -/
noncomputable def dm_iu (PR PC rfr cfc RE r c : Nat) : Nat :=
  dm_z (Nat.xor (dm_g PR r) (Nat.succ c)) 1 (dm_z (dm_b rfr r) (dm_z (dm_b cfc c) (dm_z (dm_g PC c) 0 (dm_b (dm_g RE (Nat.sub (dm_g PC c) 1)) r)) 1) 1)
noncomputable def dm_u (E PR PC rfr cfc RE r n : Nat) : Nat := Nat.rec (motive := fun _ => Nat) 0 (fun c x => Nat.lor x (Nat.shiftLeft (dm_z (dm_b (dm_g E r) c) 0 (dm_iu PR PC rfr cfc RE r c)) c)) n
noncomputable def dm_uo (E PR PC rfr cfc RE US n : Nat) : Nat := Nat.rec (motive := fun _ => Nat) US (fun r A => dm_p A r (dm_u E PR PC rfr cfc RE r 7)) n
/-! turnPath, augment -/
noncomputable def dm_tp (CF start : Nat) (K : Nat → Nat → Bool) (k : Nat) : Nat → Nat → Nat → Bool :=
  Nat.rec (motive := fun _ => Nat → Nat → Nat → Bool) (fun _ PR PC => K PR PC)
    (fun _ ih c PR PC => dm_f (dm_g CF c) (fun r => dm_f (dm_g PR r) (fun v => dm_f (dm_p PR r (Nat.succ c)) (fun PR' => dm_f (dm_p PC c (Nat.succ r)) (fun PC' => dm_z (Nat.xor r start) (K PR' PC') (dm_z v false (ih (Nat.sub v 1) PR' PC'))))))) k
noncomputable def dm_ai (E PR PC start r : Nat) (K : Nat → Nat → Nat → Nat → Nat → Bool) (C : Nat → Nat → Nat → Nat → Bool) (k : Nat) : Nat → Nat → Nat → Nat → Bool :=
  Nat.rec (motive := fun _ => Nat → Nat → Nat → Nat → Bool) (fun en seen Q CF => C en seen Q CF)
    (fun k ih en seen Q CF => dm_z (Nat.sub (dm_b (dm_g E r) (Nat.sub 6 k)) (dm_b seen (Nat.sub 6 k))) (ih en seen Q CF)
      (dm_f (Nat.lor seen (Nat.shiftLeft 1 (Nat.sub 6 k))) (fun seen' => dm_f (dm_p CF (Nat.sub 6 k) r) (fun CF' =>
        dm_z (dm_g PC (Nat.sub 6 k)) (dm_tp CF' start (fun PR' PC' => K 1 PR' PC' Q CF') 7 (Nat.sub 6 k) PR PC)
          (dm_z (Nat.sub 7 en) false (dm_f (dm_p Q en (Nat.sub (dm_g PC (Nat.sub 6 k)) 1)) (fun Q' => ih (Nat.succ en) seen' Q' CF'))))))) k
noncomputable def dm_ao (E PR PC start : Nat) (K : Nat → Nat → Nat → Nat → Nat → Bool) (k : Nat) : Nat → Nat → Nat → Nat → Bool :=
  Nat.rec (motive := fun _ => Nat → Nat → Nat → Nat → Bool) (fun _ _ _ _ => false)
    (fun k ih en seen Q CF => dm_z (Nat.sub en (Nat.sub 7 k)) (K 0 PR PC Q CF) (dm_f (dm_g Q (Nat.sub 7 k)) (fun r => dm_ai E PR PC start r K ih 7 en seen Q CF))) k
noncomputable def dm_au (E PR PC Q CF start : Nat) (K : Nat → Nat → Nat → Nat → Nat → Bool) : Bool :=
  dm_f (dm_p Q 0 start) (fun Q' => dm_ao E PR PC start K 8 1 0 Q' CF)
/-! prepare -/
noncomputable def dm_pr (E : Nat) (C : Nat → Nat → Nat → Nat → Nat → Bool) (k : Nat) : Nat → Nat → Nat → Nat → Nat → Bool :=
  Nat.rec (motive := fun _ => Nat → Nat → Nat → Nat → Nat → Bool) (fun gr PR PC Q CF => C gr PR PC Q CF)
    (fun k ih gr PR PC Q CF => dm_z (dm_g PR (Nat.sub 6 k)) (dm_au E PR PC Q CF (Nat.sub 6 k) (fun t PR' PC' Q' CF' => ih (dm_z t gr 1) PR' PC' Q' CF')) (ih gr PR PC Q CF)) k
noncomputable def dm_ro (E : Nat) (K : Nat → Nat → Bool) (k : Nat) : Nat → Nat → Nat → Nat → Nat → Bool :=
  Nat.rec (motive := fun _ => Nat → Nat → Nat → Nat → Nat → Bool) (fun _ PR PC _ _ => K PR PC)
    (fun _ ih gr PR PC Q CF => dm_z gr (K PR PC) (dm_pr E ih 7 0 PR PC Q CF)) k
noncomputable def dm_fin (E PR PC RE US : Nat) (K : Nat → Nat → Nat → Nat → Nat → Nat → Bool) : Bool :=
  dm_f (dm_fre PR 7) (fun rfr0 => dm_f (dm_fre PC 7) (fun cfc0 => dm_rd E PR PC (fun rfr cfr rfc cfc => dm_f (dm_wo (dm_re0 E PC RE 7) 7) (fun RE' => dm_f (dm_uo E PR PC rfr cfc RE' US 7) (fun US' => K rfr cfr rfc cfc RE' US'))) 8 rfr0 0 0 cfc0))
noncomputable def dm_x (E : Nat) (K : Nat → Nat → Nat → Nat → Nat → Nat → Nat → Nat → Bool) : Bool :=
  dm_ro E (fun PR PC => dm_fin E PR PC 0 0 (fun rfr cfr rfc cfc RE US => K PR PC rfr cfr rfc cfc RE US)) 8 1 0 0 0 0
/-! answers -/
noncomputable def dm_lar (PR n : Nat) : Nat := Nat.rec (motive := fun _ => Nat) 0 (fun r x => Nat.add x (dm_nz (dm_g PR r))) n
noncomputable def dm_cov (E rfr cfr n : Nat) : Nat := Nat.rec (motive := fun _ => Nat) 0 (fun i x => Nat.add (Nat.add x (dm_z (dm_g E i) 0 (Nat.sub 1 (dm_b rfr i)))) (dm_b cfr i)) n
noncomputable def dm_fo (PR rfr cfc US r : Nat) : Nat :=
  dm_z (dm_g PR r) 0 (dm_z (dm_b rfr r) (dm_z (dm_b cfc (Nat.sub (dm_g PR r) 1)) (dm_z (Nat.xor (dm_g US r) (Nat.shiftLeft 1 (Nat.sub (dm_g PR r) 1))) (Nat.shiftLeft 1 (Nat.sub (dm_g PR r) 1)) 0) 0) 0)
noncomputable def dm_r2 (US cols x n : Nat) : Nat := Nat.rec (motive := fun _ => Nat) x (fun k y => Nat.lor y (Nat.shiftLeft (dm_nz (Nat.land (dm_g US k) cols)) k)) n
noncomputable def dm_rob (US x n : Nat) : Nat := Nat.rec (motive := fun _ => Nat) x (fun _ y => dm_r2 US (dm_cnt US y 7) y 7) n
noncomputable def dm_blk (US r : Nat) : Nat := dm_z (dm_g US r) 0 (dm_rob US (Nat.shiftLeft 1 r) 7)
/-! the law -/
noncomputable def dm_l3 (x : Nat) : Nat := dm_z (Nat.sub 3 x) 0 1
noncomputable def dm_s73 (a b d : Nat) : Nat := Nat.add (Nat.add (Nat.add 1 (dm_l3 a)) (dm_l3 b)) (dm_l3 d)
noncomputable def dm_s61 (a b d : Nat) : Nat := dm_z (Nat.sub 3 b) (dm_s73 a b d) (dm_z (Nat.xor b d) 0 (dm_s73 a b d))
noncomputable def dm_s46 (a b d : Nat) : Nat := dm_z (Nat.sub 3 a) (dm_s61 a b d) (dm_z (Nat.xor a b) 0 (dm_z (Nat.xor a d) 0 (dm_s61 a b d)))
noncomputable def dm_s28 (w a b d : Nat) : Nat := dm_z (Nat.sub 3 d) (dm_s46 a b d) (dm_z (dm_b w (Nat.add 6 d)) 0 (dm_s46 a b d))
noncomputable def dm_s13 (w a b d : Nat) : Nat := dm_z (Nat.sub 3 b) (dm_s28 w a b d) (dm_z (dm_b w (Nat.add 3 b)) 0 (dm_s28 w a b d))
/-- size + 1 -/
noncomputable def dm_sz (w a b d : Nat) : Nat := dm_z (Nat.sub 3 a) (dm_s13 w a b d) (dm_z (dm_b w a) 0 (dm_s13 w a b d))
/-- the three digits of k -/
noncomputable def dm_ka (k : Nat) : Nat := Nat.shiftRight k 4
noncomputable def dm_kb (k : Nat) : Nat := Nat.land (Nat.shiftRight k 2) 3
noncomputable def dm_kd (k : Nat) : Nat := Nat.land k 3
noncomputable def dm_lg (w : Nat) (K : Nat → Bool) (k : Nat) : Nat → Bool :=
  Nat.rec (motive := fun _ => Nat → Bool) (fun b => K b)
    (fun k ih b => dm_f (dm_sz w (dm_ka (Nat.sub 63 k)) (dm_kb (Nat.sub 63 k)) (dm_kd (Nat.sub 63 k))) (fun s => dm_z (Nat.sub s (Nat.succ b)) (ih b) (ih (Nat.sub s 1)))) k
noncomputable def dm_bi (r c : Nat) : Nat := dm_z (Nat.sub 3 c) 0 (Nat.shiftLeft 1 (Nat.add (Nat.mul 3 r) c))
noncomputable def dm_e3 (x v : Nat) : Nat := dm_z (Nat.xor x 3) v 0
noncomputable def dm_lc (a b d : Nat) : Nat := Nat.land (Nat.land (Nat.land 7 (Nat.xor 15 (Nat.shiftLeft 1 a))) (Nat.xor 15 (Nat.shiftLeft 1 b))) (Nat.xor 15 (Nat.shiftLeft 1 d))
noncomputable def dm_set (k : Nat) : Nat := Nat.lor (Nat.lor (dm_bi 0 (dm_ka k)) (dm_bi 1 (dm_kb k))) (dm_bi 2 (dm_kd k))
noncomputable def dm_sp (w n : Nat) (K : Nat → Nat → Nat → Nat → Bool) (k : Nat) : Nat → Nat → Nat → Nat → Bool :=
  Nat.rec (motive := fun _ => Nat → Nat → Nat → Nat → Bool) (fun some every lr lc => K some every lr lc)
    (fun k ih some every lr lc => dm_z (Nat.xor (dm_sz w (dm_ka (Nat.sub 63 k)) (dm_kb (Nat.sub 63 k)) (dm_kd (Nat.sub 63 k))) (Nat.succ n))
      (dm_f (Nat.lor some (dm_set (Nat.sub 63 k))) (fun some' => dm_f (Nat.land every (dm_set (Nat.sub 63 k))) (fun every' =>
        dm_f (Nat.lor (Nat.lor (Nat.lor lr (dm_e3 (dm_ka (Nat.sub 63 k)) 1)) (dm_e3 (dm_kb (Nat.sub 63 k)) 2)) (dm_e3 (dm_kd (Nat.sub 63 k)) 4)) (fun lr' =>
          dm_f (Nat.lor lc (dm_lc (dm_ka (Nat.sub 63 k)) (dm_kb (Nat.sub 63 k)) (dm_kd (Nat.sub 63 k)))) (fun lc' => ih some' every' lr' lc')))))
      (ih some every lr lc)) k
noncomputable def dm_b9 (so x n : Nat) : Nat := Nat.rec (motive := fun _ => Nat) x (fun k y => dm_z (dm_b y (Nat.div k 3)) y (dm_z (Nat.land (Nat.land (Nat.shiftRight so (Nat.mul (Nat.div k 3) 3)) (Nat.shiftRight so (Nat.mul (Nat.mod k 3) 3))) 7) y (Nat.lor y (Nat.shiftLeft 1 (Nat.mod k 3))))) n
noncomputable def dm_b3 (so x n : Nat) : Nat := Nat.rec (motive := fun _ => Nat) x (fun _ y => dm_b9 so y 9) n
noncomputable def dm_bk (so row : Nat) : Nat := dm_b3 so (dm_z (Nat.land (Nat.shiftRight so (Nat.mul 3 row)) 7) 0 (Nat.shiftLeft 1 row)) 3
/-- three bits of w, those of row k -/
noncomputable def dm_t (w k : Nat) : Nat := Nat.land (Nat.shiftRight w (Nat.mul 3 k)) 7
noncomputable def dm_q (a b : Nat) (K : Bool) : Bool := dm_z (Nat.xor a b) K false
noncomputable def dm_E (e oR oC : Nat) : Nat := dm_p (dm_p (dm_p 0 oR (Nat.shiftLeft (dm_t e 0) oC)) (Nat.add 1 oR) (Nat.shiftLeft (dm_t e 1) oC)) (Nat.add 2 oR) (Nat.shiftLeft (dm_t e 2) oC)
noncomputable def dm_uf (oR oC so ev PR rfr cfc US k : Nat) (K : Bool) : Bool :=
  dm_q (dm_g US (Nat.add k oR)) (Nat.shiftLeft (dm_t so k) oC) (dm_q (dm_fo PR rfr cfc US (Nat.add k oR)) (Nat.shiftLeft (dm_t ev k) oC) K)
noncomputable def dm_lo (x o : Nat) : Nat := Nat.lor (Nat.xor 127 (Nat.shiftLeft 7 o)) (Nat.shiftLeft x o)
noncomputable def dm_bq (oR so US row : Nat) (K : Bool) : Bool := dm_q (dm_blk US (Nat.add row oR)) (Nat.shiftLeft (dm_bk so row) oR) K
noncomputable def dm_ck (e oR oC n so ev lr lc : Nat) : Bool :=
  dm_f (dm_E e oR oC) (fun E => dm_x E (fun PR PC rfr cfr rfc cfc RE US =>
    dm_q (dm_lar PR 7) n (dm_q (dm_cov E rfr cfr 7) n
      (dm_uf oR oC so ev PR rfr cfc US 0 (dm_uf oR oC so ev PR rfr cfc US 1 (dm_uf oR oC so ev PR rfr cfc US 2
        (dm_q rfr (dm_lo lr oR) (dm_q cfc (dm_lo lc oC)
          (dm_bq oR so US 0 (dm_bq oR so US 1 (dm_bq oR so US 2 true)))))))))))
noncomputable def dm_al (e n so ev lr lc : Nat) (m : Nat) : Bool := Nat.rec (motive := fun _ => Bool) true (fun j ih => Bool.rec (motive := fun _ => Bool) false ih (dm_ck e (Nat.div j 5) (Nat.mod j 5) n so ev lr lc)) m
noncomputable def dm_ch (e : Nat) : Bool := dm_lg e (fun n => dm_sp e n (fun so ev lr lc => dm_al e n so ev lr lc 25) 64 0 511 0 0) 64 0
noncomputable def dm_ev (a m : Nat) : Bool := Nat.rec (motive := fun _ => Bool) true (fun j ih => Bool.rec (motive := fun _ => Bool) false ih (dm_ch (Nat.add a j))) m
end
section
/-! every edge set, every offset, every row: by the kernel's computation -/
set_option maxRecDepth 100000 in
theorem dm_k0 : dm_ev 0 32 = true := by decide +kernel
set_option maxRecDepth 100000 in
theorem dm_k1 : dm_ev 32 32 = true := by decide +kernel
set_option maxRecDepth 100000 in
theorem dm_k2 : dm_ev 64 32 = true := by decide +kernel
set_option maxRecDepth 100000 in
theorem dm_k3 : dm_ev 96 32 = true := by decide +kernel
set_option maxRecDepth 100000 in
theorem dm_k4 : dm_ev 128 32 = true := by decide +kernel
set_option maxRecDepth 100000 in
theorem dm_k5 : dm_ev 160 32 = true := by decide +kernel
set_option maxRecDepth 100000 in
theorem dm_k6 : dm_ev 192 32 = true := by decide +kernel
set_option maxRecDepth 100000 in
theorem dm_k7 : dm_ev 224 32 = true := by decide +kernel
set_option maxRecDepth 100000 in
theorem dm_k8 : dm_ev 256 32 = true := by decide +kernel
set_option maxRecDepth 100000 in
theorem dm_k9 : dm_ev 288 32 = true := by decide +kernel
set_option maxRecDepth 100000 in
theorem dm_k10 : dm_ev 320 32 = true := by decide +kernel
set_option maxRecDepth 100000 in
theorem dm_k11 : dm_ev 352 32 = true := by decide +kernel
set_option maxRecDepth 100000 in
theorem dm_k12 : dm_ev 384 32 = true := by decide +kernel
set_option maxRecDepth 100000 in
theorem dm_k13 : dm_ev 416 32 = true := by decide +kernel
set_option maxRecDepth 100000 in
theorem dm_k14 : dm_ev 448 32 = true := by decide +kernel
set_option maxRecDepth 100000 in
theorem dm_k15 : dm_ev 480 32 = true := by decide +kernel
end
section
/-! an Int32 by its bits (turned from the kit's BITS rows) -/
def dm_bt (x : Int32) (i : Nat) : Bool := x.toBitVec.getLsbD i
theorem dm_bext {x y : Int32} (h : ∀ i, i < 32 → dm_bt x i = dm_bt y i) : x = y := Int32.toBitVec_inj.mp (BitVec.eq_of_getLsbD_eq (fun i hi => h i hi))
theorem dm_bor (x y : Int32) (i : Nat) : dm_bt (x ||| y) i = (dm_bt x i || dm_bt y i) := by unfold dm_bt; rw [Int32.toBitVec_or, BitVec.getLsbD_or]
theorem dm_band (x y : Int32) (i : Nat) : dm_bt (x &&& y) i = (dm_bt x i && dm_bt y i) := by unfold dm_bt; rw [Int32.toBitVec_and, BitVec.getLsbD_and]
theorem dm_bxor (x y : Int32) (i : Nat) : dm_bt (x ^^^ y) i = (dm_bt x i ^^ dm_bt y i) := by unfold dm_bt; rw [Int32.toBitVec_xor, BitVec.getLsbD_xor]
theorem dm_bm1 : ∀ i, i < 32 → dm_bt (-1) i = true := by decide +kernel
theorem dm_b0 (i : Nat) : dm_bt 0 i = false := BitVec.getLsbD_zero
theorem dm_sl : ∀ n, n < 32 → ((nI n &&& 31).toBitVec.smod 32).toNat = n := by decide +kernel
theorem dm_bshl (n : Nat) (hn : n < 32) (x : Int32) {i : Nat} (hi : i < 32) : dm_bt (x <<< (nI n &&& 31)) i = (decide (n ≤ i) && dm_bt x (i - n)) := by
  unfold dm_bt
  rw [Int32.toBitVec_shiftLeft]
  show (x.toBitVec <<< ((nI n &&& 31).toBitVec.smod 32).toNat).getLsbD i = _
  rw [dm_sl n hn, BitVec.getLsbD_shiftLeft]
  rcases Nat.lt_or_ge i n with h | h
  · simp [h, Nat.not_le.mpr h]
  · simp [hi, h, Nat.not_lt.mpr h]
theorem dm_bshr (n : Nat) (hn : n < 32) (x : Int32) {i : Nat} (hi : n + i < 32) : dm_bt (x >>> (nI n &&& 31)) i = dm_bt x (n + i) := by
  unfold dm_bt
  rw [Int32.toBitVec_shiftRight]
  show (x.toBitVec.sshiftRight ((nI n &&& 31).toBitVec.smod 32).toNat).getLsbD i = _
  rw [dm_sl n hn, BitVec.getLsbD_sshiftRight]
  have : ¬ 32 ≤ i := by omega
  simp [hi, this]
theorem dm_bn {n i : Nat} (hi : i < 32) : dm_bt (nI n) i = n.testBit i := by
  show (BitVec.ofNat 32 n).getLsbD i = _
  rw [BitVec.getLsbD_ofNat, decide_eq_true hi, Bool.true_and]
/-! nI under or, and, shifts -/
theorem dm_nor (a b : Nat) : nI a ||| nI b = nI (Nat.lor a b) := by
  apply dm_bext
  intro i hi
  rw [dm_bor, dm_bn hi, dm_bn hi, dm_bn hi]
  exact (Nat.testBit_or a b i).symm
theorem dm_nand (a b : Nat) : nI a &&& nI b = nI (Nat.land a b) := by
  apply dm_bext
  intro i hi
  rw [dm_band, dm_bn hi, dm_bn hi, dm_bn hi]
  exact (Nat.testBit_and a b i).symm
theorem dm_nshl (a : Nat) {c : Nat} (hc : c < 32) : nI a <<< (nI c &&& 31) = nI (Nat.shiftLeft a c) := by
  apply dm_bext
  intro i hi
  rw [dm_bshl c hc _ hi, dm_bn hi]
  show _ = (a <<< c).testBit i
  rw [Nat.testBit_shiftLeft]
  rcases Nat.lt_or_ge i c with h | h
  · simp [Nat.not_le.mpr h]
  · rw [dm_bn (by omega)]
theorem dm_nshl1 {c : Nat} (hc : c < 32) : (1 : Int32) <<< (nI c &&& 31) = nI (Nat.shiftLeft 1 c) := dm_nshl 1 hc
theorem dm_tb1 (i : Nat) : (1 : Nat).testBit i = decide (i = 0) := by
  have := Nat.testBit_two_pow_sub_one 1 i
  rw [show (2 ^ 1 - 1 : Nat) = 1 from rfl] at this
  rw [this]
  exact decide_eq_decide.mpr (by omega)
theorem dm_tb (x c : Nat) : dm_b x c = (x.testBit c).toNat := by
  unfold dm_b
  show (x >>> c) &&& 1 = _
  rw [Nat.and_one_is_mod, Nat.testBit_eq_decide_div_mod_eq, Nat.shiftRight_eq_div_pow]
  rcases Nat.mod_two_eq_zero_or_one (x / 2 ^ c) with h | h <;> rw [h] <;> rfl
theorem dm_b01 (x c : Nat) : dm_b x c = 0 ∨ dm_b x c = 1 := by
  rw [dm_tb]
  cases x.testBit c
  · exact Or.inl rfl
  · exact Or.inr rfl
theorem dm_nbit (x : Nat) {c : Nat} (hc : c < 32) : ((nI x >>> (nI c &&& 31)) &&& 1) = nI (dm_b x c) := by
  apply dm_bext
  intro i hi
  rw [dm_band, show (1 : Int32) = nI 1 from rfl, dm_bn hi, dm_bn hi, dm_tb1]
  by_cases h : i = 0
  · subst h
    rw [dm_bshr c hc _ (by omega), dm_bn (by omega), dm_tb]
    rw [Nat.add_zero]
    cases x.testBit c <;> rfl
  · rw [decide_eq_false h, Bool.and_false, dm_tb]
    cases x.testBit c
    · exact (Nat.zero_testBit i).symm
    · show false = (1 : Nat).testBit i
      rw [dm_tb1, decide_eq_false h]
/-- a bit that is asked for -/
theorem dm_bz {x c : Nat} {A B : Prop} (hc : c < 32) (f : dm_b x c = 0 → A) (g : dm_b x c = 1 → B) : (((nI x >>> (nI c &&& 31)) &&& 1) = 0 → A) ∧ (¬ ((nI x >>> (nI c &&& 31)) &&& 1) = 0 → B) := by
  rw [dm_nbit x hc]
  rcases dm_b01 x c with h | h
  · rw [h]; exact br_t rfl (f h)
  · rw [h]; exact br_f (by decide) (g h)
theorem dm_nt (w : Nat) (hw : w < 2 ^ 31) {c : Nat} (hc : c < 31) : ((nI w >>> (nI c &&& 31)) &&& 7) = nI (Nat.land (Nat.shiftRight w c) 7) := by
  rw [pk_shrN hw _ c (dm_sl c (by omega)), show (7 : Int32) = nI 7 from rfl, dm_nand]
  show _ = nI (Nat.land (w >>> c) 7)
  rw [Nat.shiftRight_eq_div_pow]
/-! the packed arrays -/
theorem dm_gl (A i : Nat) : dm_g A i < 256 := Nat.lt_of_le_of_lt (Nat.and_le_right (n := A >>> (8 * i)) (m := 255)) (by decide)
theorem dm_tbg (A i k : Nat) : (dm_g A i).testBit k = (A.testBit (8 * i + k) && decide (k < 8)) := by
  show ((A >>> (8 * i)) &&& 255).testBit k = _
  rw [Nat.testBit_and, Nat.testBit_shiftRight, show (255 : Nat) = 2 ^ 8 - 1 from rfl, Nat.testBit_two_pow_sub_one]
theorem dm_tbp (A i v k : Nat) : (dm_p A i v).testBit k = (A.testBit k ^^ (decide (8 * i ≤ k) && ((dm_g A i).testBit (k - 8 * i) ^^ v.testBit (k - 8 * i)))) := by
  show (A ^^^ ((dm_g A i ^^^ v) <<< (8 * i))).testBit k = _
  rw [Nat.testBit_xor, Nat.testBit_shiftLeft, Nat.testBit_xor]
theorem dm_tbv {v k : Nat} (hv : v < 256) (hk : 8 ≤ k) : v.testBit k = false :=
  Nat.testBit_lt_two_pow (Nat.lt_of_lt_of_le hv (Nat.pow_le_pow_right (n := 2) (by decide) hk))
theorem dm_gp {A i v : Nat} (hv : v < 256) : dm_g (dm_p A i v) i = v := by
  apply Nat.eq_of_testBit_eq
  intro k
  rw [dm_tbg, dm_tbp, dm_tbg]
  rw [show 8 * i + k - 8 * i = k by omega]
  by_cases h : k < 8
  · simp [h]
  · rw [dm_tbv hv (by omega)]
    simp [h]
theorem dm_gn {A i j v : Nat} (hv : v < 256) (h : j ≠ i) : dm_g (dm_p A i v) j = dm_g A j := by
  apply Nat.eq_of_testBit_eq
  intro k
  rw [dm_tbg, dm_tbp, dm_tbg, dm_tbg]
  by_cases hk : k < 8
  · by_cases hle : 8 * i ≤ 8 * j + k
    · have h8 : ¬ 8 * j + k - 8 * i < 8 := by omega
      rw [dm_tbv hv (by omega)]
      simp [h8]
    · simp [hle]
  · simp [hk]
theorem dm_g0 (i : Nat) : dm_g 0 i = 0 := by
  apply Nat.eq_of_testBit_eq
  intro k
  rw [dm_tbg]
  simp
/-! how a state's arrays match packed ones -/
/-- a partner, kept as p + 1 -/
def dm_d : Nat → Int32
  | 0 => -1
  | c + 1 => nI c
def dm_N (a : Nat → Int32) (A : Nat) : Prop := ∀ i, i < 7 → a i = nI (dm_g A i)
def dm_S (a : Nat → Int32) (A : Nat) : Prop := ∀ i, i < 7 → dm_g A i < 7 ∧ a i = nI (dm_g A i)
def dm_B (a : Nat → Int32) (A : Nat) : Prop := ∀ i, i < 7 → dm_g A i < 8 ∧ a i = dm_d (dm_g A i)
theorem dm_Nu {a : Nat → Int32} {A r v : Nat} (hv : v < 256) (h : ∀ j, j < 7 → j ≠ r → a j = nI (dm_g A j)) : dm_N (upd a r (nI v)) (dm_p A r v) := by
  intro j hj
  by_cases e : j = r
  · subst e; rw [pk_us, dm_gp hv]
  · rw [pk_un e, dm_gn hv e]; exact h j hj e
theorem dm_Su {a : Nat → Int32} {A r v : Nat} (hv : v < 7) (h : dm_S a A) : dm_S (upd a r (nI v)) (dm_p A r v) := by
  intro j hj
  by_cases e : j = r
  · subst e; rw [pk_us, dm_gp (by omega)]; exact ⟨hv, rfl⟩
  · rw [pk_un e, dm_gn (by omega) e]; exact h j hj
theorem dm_Bu {a : Nat → Int32} {A r v : Nat} (hv : v < 8) (h : dm_B a A) : dm_B (upd a r (dm_d v)) (dm_p A r v) := by
  intro j hj
  by_cases e : j = r
  · subst e; rw [pk_us, dm_gp (by omega)]; exact ⟨hv, rfl⟩
  · rw [pk_un e, dm_gn (by omega) e]; exact h j hj
theorem dm_i8 : ∀ r, r < 7 → (nI r).toInt8.toInt32 = nI r := by decide +kernel
theorem dm_n7 : ∀ i, i < 7 → ¬ (7 : Int32) ≤ nI i := by decide +kernel
theorem dm_in {i : Nat} (h : i < 7) : vp_in (nI i) 7 := vp_in_nI h (by decide)
/-! zero tests and forced numbers -/
theorem dm_z0 {α : Type} {n : Nat} {a b : α} (h : n = 0) : dm_z n a b = a := by subst h; rfl
theorem dm_z1 {α : Type} {n : Nat} {a b : α} (h : n ≠ 0) : dm_z n a b = b := by
  cases n with
  | zero => exact absurd rfl h
  | succ n => rfl
theorem dm_fe (n : Nat) (f : Nat → Bool) : dm_f n f = f n := by cases n <;> rfl
theorem dm_x0 {a b : Nat} : Nat.xor a b = 0 ↔ a = b := by
  constructor
  · intro h
    apply Nat.eq_of_testBit_eq
    intro i
    have h2 : (a ^^^ b).testBit i = false := by
      rw [show a ^^^ b = 0 from h]; exact Nat.zero_testBit i
    rw [Nat.testBit_xor] at h2
    cases h3 : a.testBit i <;> cases h4 : b.testBit i <;> rw [h3, h4] at h2 <;> first | rfl | exact absurd h2 (by decide)
  · intro h; subst h; exact Nat.xor_self a
theorem dm_xn {a b : Nat} (h : a ≠ b) : Nat.xor a b ≠ 0 := fun z => h (dm_x0.mp z)
theorem dm_qe {a b : Nat} {K : Bool} (h : dm_q a b K = true) : a = b ∧ K = true := by
  unfold dm_q at h
  by_cases e : Nat.xor a b = 0
  · rw [dm_z0 e] at h; exact ⟨dm_x0.mp e, h⟩
  · rw [dm_z1 e] at h; exact absurd h (by decide)
theorem dm_or_lt {a b : Nat} (ha : a < 128) (hb : b < 128) : Nat.lor a b < 128 := Nat.or_lt_two_pow (n := 7) ha hb
theorem dm_or_lt8 {a b : Nat} (ha : a < 256) (hb : b < 256) : Nat.lor a b < 256 := Nat.or_lt_two_pow (n := 8) ha hb
theorem dm_lor0 (a : Nat) : Nat.lor a 0 = a := Nat.or_zero a
theorem dm_shl_lt : ∀ c, c < 7 → Nat.shiftLeft 1 c < 128 := by decide
end
section
/-! the methods that compute sets -/
theorem dm_sh1 : ∀ v, v < 8 → Nat.shiftRight (Nat.shiftLeft 1 (v + 1)) 1 = Nat.shiftLeft 1 v := by decide
theorem dm_poc_s0 {P s i : Nat} (h : dm_b s i = 0) : dm_poc P s (i + 1) = dm_poc P s i := by
  show Nat.lor (dm_poc P s i) (dm_b s i * (Nat.shiftRight (Nat.shiftLeft 1 (dm_g P i)) 1)) = _
  rw [h, Nat.zero_mul]
  exact Nat.or_zero _
theorem dm_poc_s1 {P s i : Nat} (h : dm_b s i = 1) (hv : dm_g P i = 0) : dm_poc P s (i + 1) = dm_poc P s i := by
  show Nat.lor (dm_poc P s i) (dm_b s i * (Nat.shiftRight (Nat.shiftLeft 1 (dm_g P i)) 1)) = _
  rw [h, hv]
  exact Nat.or_zero _
theorem dm_poc_s2 {P s i v : Nat} (h : dm_b s i = 1) (hv : dm_g P i = v + 1) (hv8 : v < 8) : dm_poc P s (i + 1) = Nat.lor (dm_poc P s i) (Nat.shiftLeft 1 v) := by
  show Nat.lor (dm_poc P s i) (dm_b s i * (Nat.shiftRight (Nat.shiftLeft 1 (dm_g P i)) 1)) = _
  rw [h, hv, Nat.one_mul, dm_sh1 v hv8]
theorem dm_poc_lt {P s : Nat} {a : Nat → Int32} (h : dm_B a P) : ∀ i, i ≤ 7 → dm_poc P s i < 128
  | 0, _ => (by decide : (0 : Nat) < 128)
  | i + 1, hi => by
    have ih := dm_poc_lt (s := s) h i (by omega)
    have hv := (h i (by omega)).1
    rcases dm_b01 s i with hb | hb
    · rw [dm_poc_s0 hb]; exact ih
    · cases e : dm_g P i with
      | zero => rw [dm_poc_s1 hb e]; exact ih
      | succ v => rw [dm_poc_s2 hb e (by omega)]; exact dm_or_lt ih (dm_shl_lt v (by omega))
section
variable {post : Int32 → Prop} {f0 f1 f2 f3 f4 : Int32} {a1 a2 a3 a4 a5 a6 a7 : Nat → Int32}
theorem dm_wpoc {P s : Nat} (ha : dm_B a3 P) (H : post (nI (dm_poc P s 7))) : ∀ k i, i + k = 7 → wX_partnersOfColumns_4 post (nI s) f0 f1 f2 f3 f4 a1 a2 a3 a4 a5 a6 a7 (k + 1) (nI (dm_poc P s i)) (nI i)
  | 0, i, h => by
    have e : i = 7 := by omega
    subst e
    exact br_t (by decide) H
  | k + 1, i, h => by
    have hi : i < 7 := by omega
    have ih := dm_wpoc ha H k (i + 1) (by omega)
    obtain ⟨hv, hq⟩ := ha i hi
    refine br_f (dm_n7 i hi) (dm_bz (by omega) (fun hb => nm_r (nI_1 i) ?_) (fun hb => ⟨dm_in hi, ?_⟩))
    · rw [dm_poc_s0 hb] at ih; exact ih
    · rw [nI_clamp (by omega), hq]
      cases e : dm_g P i with
      | zero =>
        rw [dm_poc_s1 hb e] at ih
        exact br_t (by decide) (nm_r (nI_1 i) ih)
      | succ v =>
        rw [dm_poc_s2 hb e (by omega)] at ih
        exact br_f (nI_pos (by omega)) ⟨dm_in hi, nm_r (show nI (dm_poc P s i) ||| ((1 : Int32) <<< (nI v &&& 31)) = _ by rw [dm_nshl1 (by omega), dm_nor]) (nm_r (nI_1 i) ih)⟩
theorem dm_vpoc {P s : Nat} (ha : dm_B a3 P) (H : post (nI (dm_poc P s 7))) : wpX_partnersOfColumns post (f0, f1, f2, f3, f4, a1, a2, a3, a4, a5, a6, a7) (nI s) :=
  ⟨8, dm_wpoc ha H 7 0 rfl⟩
theorem dm_wpor {P s : Nat} (ha : dm_B a2 P) (H : post (nI (dm_poc P s 7))) : ∀ k i, i + k = 7 → wX_partnersOfRows_4 post (nI s) f0 f1 f2 f3 f4 a1 a2 a3 a4 a5 a6 a7 (k + 1) (nI (dm_poc P s i)) (nI i)
  | 0, i, h => by
    have e : i = 7 := by omega
    subst e
    exact br_t (by decide) H
  | k + 1, i, h => by
    have hi : i < 7 := by omega
    have ih := dm_wpor ha H k (i + 1) (by omega)
    obtain ⟨hv, hq⟩ := ha i hi
    refine br_f (dm_n7 i hi) (dm_bz (by omega) (fun hb => nm_r (nI_1 i) ?_) (fun hb => ⟨dm_in hi, ?_⟩))
    · rw [dm_poc_s0 hb] at ih; exact ih
    · rw [nI_clamp (by omega), hq]
      cases e : dm_g P i with
      | zero =>
        rw [dm_poc_s1 hb e] at ih
        exact br_t (by decide) (nm_r (nI_1 i) ih)
      | succ v =>
        rw [dm_poc_s2 hb e (by omega)] at ih
        exact br_f (nI_pos (by omega)) ⟨dm_in hi, nm_r (show nI (dm_poc P s i) ||| ((1 : Int32) <<< (nI v &&& 31)) = _ by rw [dm_nshl1 (by omega), dm_nor]) (nm_r (nI_1 i) ih)⟩
theorem dm_vpor {P s : Nat} (ha : dm_B a2 P) (H : post (nI (dm_poc P s 7))) : wpX_partnersOfRows post (f0, f1, f2, f3, f4, a1, a2, a3, a4, a5, a6, a7) (nI s) :=
  ⟨8, dm_wpor ha H 7 0 rfl⟩
/-! columnsNextTo -/
theorem dm_cnt_s0 {E s i : Nat} (h : dm_b s i = 0) : dm_cnt E s (i + 1) = dm_cnt E s i := by
  show Nat.lor (dm_cnt E s i) (dm_b s i * dm_g E i) = _
  rw [h, Nat.zero_mul]
  exact Nat.or_zero _
theorem dm_cnt_s1 {E s i : Nat} (h : dm_b s i = 1) : dm_cnt E s (i + 1) = Nat.lor (dm_cnt E s i) (dm_g E i) := by
  show Nat.lor (dm_cnt E s i) (dm_b s i * dm_g E i) = _
  rw [h, Nat.one_mul]
theorem dm_wcnt {E s : Nat} (ha : dm_N a1 E) (H : post (nI (dm_cnt E s 7))) : ∀ k i, i + k = 7 → wX_columnsNextTo_4 post (nI s) f0 f1 f2 f3 f4 a1 a2 a3 a4 a5 a6 a7 (k + 1) (nI (dm_cnt E s i)) (nI i)
  | 0, i, h => by
    have e : i = 7 := by omega
    subst e
    exact br_t (by decide) H
  | k + 1, i, h => by
    have hi : i < 7 := by omega
    have ih := dm_wcnt ha H k (i + 1) (by omega)
    refine br_f (dm_n7 i hi) (dm_bz (by omega) (fun hb => nm_r (nI_1 i) ?_) (fun hb => ⟨dm_in hi, ?_⟩))
    · rw [dm_cnt_s0 hb] at ih; exact ih
    · rw [nI_clamp (by omega), ha i hi]
      rw [dm_cnt_s1 hb] at ih
      exact nm_r (dm_nor _ _) (nm_r (nI_1 i) ih)
theorem dm_vcnt {E s : Nat} (ha : dm_N a1 E) (H : post (nI (dm_cnt E s 7))) : wpX_columnsNextTo post (f0, f1, f2, f3, f4, a1, a2, a3, a4, a5, a6, a7) (nI s) :=
  ⟨8, dm_wcnt ha H 7 0 rfl⟩
/-! rowsWithEdgeTo, rowsNextTo -/
theorem dm_wrwe {E c : Nat} (hc : c < 7) (ha : dm_N a1 E) (H : post (nI (dm_rwe E c 7))) : ∀ k i, i + k = 7 → wX_rowsWithEdgeTo_4 post (nI c) f0 f1 f2 f3 f4 a1 a2 a3 a4 a5 a6 a7 (k + 1) (nI (dm_rwe E c i)) (nI i)
  | 0, i, h => by
    have e : i = 7 := by omega
    subst e
    exact br_t (by decide) H
  | k + 1, i, h => by
    have hi : i < 7 := by omega
    have ih := dm_wrwe hc ha H k (i + 1) (by omega)
    refine br_f (dm_n7 i hi) ⟨dm_in hi, ?_⟩
    rw [nI_clamp (by omega), ha i hi]
    exact nm_r (by rw [dm_nbit _ (by omega), dm_nshl _ (by omega), dm_nor]; rfl) (nm_r (nI_1 i) ih)
theorem dm_vrwe {E c : Nat} (hc : c < 7) (ha : dm_N a1 E) (H : post (nI (dm_rwe E c 7))) : wpX_rowsWithEdgeTo post (f0, f1, f2, f3, f4, a1, a2, a3, a4, a5, a6, a7) (nI c) :=
  ⟨8, dm_wrwe hc ha H 7 0 rfl⟩
theorem dm_rnt_s0 {E s i : Nat} (h : dm_b s i = 0) : dm_rnt E s (i + 1) = dm_rnt E s i := by
  show Nat.lor (dm_rnt E s i) (dm_b s i * dm_rwe E i 7) = _
  rw [h, Nat.zero_mul]
  exact Nat.or_zero _
theorem dm_rnt_s1 {E s i : Nat} (h : dm_b s i = 1) : dm_rnt E s (i + 1) = Nat.lor (dm_rnt E s i) (dm_rwe E i 7) := by
  show Nat.lor (dm_rnt E s i) (dm_b s i * dm_rwe E i 7) = _
  rw [h, Nat.one_mul]
end
section
variable {post : Int32 → Prop} {f0 f1 f2 f3 f4 : Int32} {a1 a2 a3 a4 a5 a6 a7 : Nat → Int32}
theorem dm_wrnt {E s : Nat} (ha : dm_N a1 E) (H : post (nI (dm_rnt E s 7))) : ∀ k i, i + k = 7 → wX_rowsNextTo_4 post (nI s) f0 f1 f2 f3 f4 a1 a2 a3 a4 a5 a6 a7 (k + 1) (nI (dm_rnt E s i)) (nI i)
  | 0, i, h => by
    have e : i = 7 := by omega
    subst e
    exact br_t (by decide) H
  | k + 1, i, h => by
    have hi : i < 7 := by omega
    have ih := dm_wrnt ha H k (i + 1) (by omega)
    refine br_f (dm_n7 i hi) (dm_bz (by omega) (fun hb => nm_r (nI_1 i) ?_) (fun hb => dm_vrwe hi ha (nm_r (dm_nor _ _) (nm_r (nI_1 i) ?_))))
    · rw [dm_rnt_s0 hb] at ih; exact ih
    · rw [dm_rnt_s1 hb] at ih; exact ih
theorem dm_vrnt {E s : Nat} (ha : dm_N a1 E) (H : post (nI (dm_rnt E s 7))) : wpX_rowsNextTo post (f0, f1, f2, f3, f4, a1, a2, a3, a4, a5, a6, a7) (nI s) :=
  ⟨8, dm_wrnt ha H 7 0 rfl⟩
end
end
section
/-! findReach -/
theorem dm_fre0 (x i : Nat) : Nat.lor x (Nat.shiftLeft (Nat.sub 1 0) i) = Nat.lor x (Nat.shiftLeft 1 i) := rfl
theorem dm_fre1 (x i v : Nat) : Nat.lor x (Nat.shiftLeft (Nat.sub 1 (v + 1)) i) = x := by
  rw [show Nat.sub 1 (v + 1) = 0 from Nat.sub_eq_zero_of_le (by omega)]
  show x ||| (0 <<< i) = x
  rw [Nat.zero_shiftLeft]
  exact Nat.or_zero x
theorem dm_n8 : ∀ i, i < 8 → ¬ (8 : Int32) ≤ nI i := by decide +kernel
theorem dm_neg : ¬ (0 : Int32) ≤ dm_d 0 := by decide
theorem dm_pid (B i : Nat) : dm_p B i (dm_g B i) = B := by
  show B ^^^ ((dm_g B i ^^^ dm_g B i) <<< (8 * i)) = B
  rw [Nat.xor_self, Nat.zero_shiftLeft, Nat.xor_zero]
theorem dm_rd_s (E PR PC : Nat) (K : Nat → Nat → Nat → Nat → Bool) (k rfr cfr rfc cfc : Nat) : dm_rd E PR PC K (k + 1) rfr cfr rfc cfc
    = dm_rd E PR PC K k (Nat.lor rfr (dm_poc PC (dm_cnt E rfr 7) 7)) (dm_cnt E rfr 7) (dm_rnt E cfc 7) (Nat.lor cfc (dm_poc PR (dm_rnt E cfc 7) 7)) := by
  show dm_f (dm_cnt E rfr 7) (fun cfr' => dm_f (Nat.lor rfr (dm_poc PC cfr' 7)) (fun rfr' => dm_f (dm_rnt E cfc 7) (fun rfc' => dm_f (Nat.lor cfc (dm_poc PR rfc' 7)) (fun cfc' => dm_rd E PR PC K k rfr' cfr' rfc' cfc')))) = _
  rw [dm_fe, dm_fe, dm_fe, dm_fe]
section
variable {post : St2 → Prop} {f0 f1 f2 f3 f4 : Int32} {a1 a2 a3 a4 a5 a6 a7 : Nat → Int32} {E PR PC : Nat}
theorem dm_w39 {J : Int32 → Int32 → Int32 → Prop} {i x : Nat} (hi : i < 7) (h3 : dm_B a3 PC) (H : J (nI (i + 1)) f1 (nI (Nat.lor x (Nat.shiftLeft (Nat.sub 1 (dm_g PC i)) i)))) : wX_findReach_39 post J (nI i) f0 f1 f2 f3 (nI x) a1 a2 a3 a4 a5 a6 a7 := by
  unfold wX_findReach_39
  refine ⟨dm_in hi, ?_⟩
  rw [nI_clamp (by omega), (h3 i hi).2]
  have hv := (h3 i hi).1
  cases e : dm_g PC i with
  | zero =>
    rw [e] at H
    exact br_f dm_neg (nm_r (by rw [dm_nshl1 (by omega), dm_nor]) (nm_r (nI_1 i) H))
  | succ v =>
    rw [e, dm_fre1] at H
    exact br_t (nI_pos' (by omega)) (nm_r (nI_1 i) H)
theorem dm_w12 (h2 : dm_B a2 PR) (h3 : dm_B a3 PC) (H : ∃ fu, wX_findReach_68 post f0 a1 a2 a3 a4 a5 a6 a7 fu 0 (nI (dm_fre PR 7)) f2 f3 (nI (dm_fre PC 7))) : ∀ k i, i + k = 7 → wX_findReach_12 post f0 f2 f3 a1 a2 a3 a4 a5 a6 a7 (k + 1) (nI i) (nI (dm_fre PR i)) (nI (dm_fre PC i))
  | 0, i, h => by
    have e : i = 7 := by omega
    subst e
    exact br_t (by decide) H
  | k + 1, i, h => by
    have hi : i < 7 := by omega
    have ih : wX_findReach_12 post f0 f2 f3 a1 a2 a3 a4 a5 a6 a7 (k + 1) (nI (i + 1)) (nI (Nat.lor (dm_fre PR i) (Nat.shiftLeft (Nat.sub 1 (dm_g PR i)) i))) (nI (Nat.lor (dm_fre PC i) (Nat.shiftLeft (Nat.sub 1 (dm_g PC i)) i))) := dm_w12 h2 h3 H k (i + 1) (by omega)
    refine br_f (dm_n7 i hi) ⟨dm_in hi, ?_⟩
    rw [nI_clamp (by omega), (h2 i hi).2]
    have hv := (h2 i hi).1
    cases e : dm_g PR i with
    | zero =>
      rw [e] at ih
      exact br_f dm_neg (nm_r (by rw [dm_nshl1 (by omega), dm_nor]) (dm_w39 hi h3 ih))
    | succ v =>
      rw [e, dm_fre1] at ih
      exact br_t (nI_pos' (by omega)) (dm_w39 hi h3 ih)
theorem dm_w68 (h1 : dm_N a1 E) (h2 : dm_B a2 PR) (h3 : dm_B a3 PC) {K : Nat → Nat → Nat → Nat → Bool}
    (H : ∀ rfr cfr rfc cfc, K rfr cfr rfc cfc = true → ∃ fu, wX_findReach_140 post f0 (nI rfr) (nI cfr) (nI rfc) (nI cfc) fu 0 a1 a2 a3 a4 a5 a6 a7) :
    ∀ k i rfr cfr rfc cfc, i + k = 8 → dm_rd E PR PC K k rfr cfr rfc cfc = true → wX_findReach_68 post f0 a1 a2 a3 a4 a5 a6 a7 (k + 1) (nI i) (nI rfr) (nI cfr) (nI rfc) (nI cfc)
  | 0, i, rfr, cfr, rfc, cfc, h, hk => by
    have e : i = 8 := by omega
    subst e
    exact br_t (by decide) (H _ _ _ _ hk)
  | k + 1, i, rfr, cfr, rfc, cfc, h, hk => by
    rw [dm_rd_s] at hk
    have ih := dm_w68 h1 h2 h3 H k (i + 1) _ _ _ _ (by omega) hk
    exact br_f (dm_n8 i (by omega)) (dm_vcnt h1 (dm_vpoc h3 (nm_r (dm_nor _ _) (dm_vrnt h1 (dm_vpor h2 (nm_r (dm_nor _ _) (nm_r (nI_1 i) ih)))))))
theorem dm_w140 {RE : Nat} (h1 : dm_N a1 E) (h3 : dm_B a3 PC) (H : ∀ a6, dm_N a6 (dm_re0 E PC RE 7) → ∃ fu, wX_findReach_170 post f0 f1 f2 f3 f4 fu 0 a1 a2 a3 a4 a5 a6 a7) :
    ∀ k i a6, i + k = 7 → dm_N a6 (dm_re0 E PC RE i) → wX_findReach_140 post f0 f1 f2 f3 f4 (k + 1) (nI i) a1 a2 a3 a4 a5 a6 a7
  | 0, i, a6, h, h6 => by
    have e : i = 7 := by omega
    subst e
    exact br_t (by decide) (H a6 h6)
  | k + 1, i, a6, h, h6 => by
    have hi : i < 7 := by omega
    refine br_f (dm_n7 i hi) ⟨dm_in hi, ?_⟩
    rw [nI_clamp (by omega), h1 i hi]
    refine dm_vpoc h3 ⟨dm_in hi, nm_e (nm_r (nI_1 i) ?_)⟩
    exact dm_w140 h1 h3 H k (i + 1) _ (by omega) (dm_Nu (A := dm_re0 E PC RE i) (Nat.lt_trans (dm_poc_lt h3 7 (by omega)) (by decide)) (fun j hj _ => h6 j hj))
theorem dm_wi_s0 {m A i : Nat} (h : dm_b (dm_g (dm_wi m A i) i) m = 0) : dm_wi m A (i + 1) = dm_wi m A i := by
  show dm_p (dm_wi m A i) i (Nat.lor (dm_g (dm_wi m A i) i) (dm_b (dm_g (dm_wi m A i) i) m * (dm_g (dm_wi m A i) m))) = _
  rw [h, Nat.zero_mul, dm_lor0, dm_pid]
theorem dm_wi_s1 {m A i : Nat} (h : dm_b (dm_g (dm_wi m A i) i) m = 1) : dm_wi m A (i + 1) = dm_p (dm_wi m A i) i (Nat.lor (dm_g (dm_wi m A i) i) (dm_g (dm_wi m A i) m)) := by
  show dm_p (dm_wi m A i) i (Nat.lor (dm_g (dm_wi m A i) i) (dm_b (dm_g (dm_wi m A i) i) m * (dm_g (dm_wi m A i) m))) = _
  rw [h, Nat.one_mul]
theorem dm_w178 {J : Int32 → (Nat → Int32) → (Nat → Int32) → (Nat → Int32) → (Nat → Int32) → (Nat → Int32) → (Nat → Int32) → (Nat → Int32) → Prop} {m A : Nat} (hm : m < 7)
    (H : ∀ a6, dm_N a6 (dm_wi m A 7) → J (nI (m + 1)) a1 a2 a3 a4 a5 a6 a7) :
    ∀ k i a6, i + k = 7 → dm_N a6 (dm_wi m A i) → wX_findReach_178 post J (nI m) f0 f1 f2 f3 f4 (k + 1) (nI i) a1 a2 a3 a4 a5 a6 a7
  | 0, i, a6, h, h6 => by
    have e : i = 7 := by omega
    subst e
    exact br_t (by decide) (nm_r (nI_1 m) (H a6 h6))
  | k + 1, i, a6, h, h6 => by
    have hi : i < 7 := by omega
    have ih := fun a6 => dm_w178 hm H k (i + 1) a6 (by omega)
    refine br_f (dm_n7 i hi) ⟨dm_in hi, ?_⟩
    rw [nI_clamp (by omega), h6 i hi]
    refine dm_bz (by omega) (fun hb => nm_r (nI_1 i) (ih a6 ?_)) (fun hb => ⟨dm_in hi, dm_in hm, dm_in hi, ?_⟩)
    · rw [dm_wi_s0 hb]; exact h6
    · rw [nI_clamp (by omega), h6 m hm, dm_nor]
      refine nm_e (nm_r (nI_1 i) (ih _ ?_))
      rw [dm_wi_s1 hb]
      exact dm_Nu (dm_or_lt8 (dm_gl _ _) (dm_gl _ _)) (fun j hj _ => h6 j hj)
theorem dm_w170 {RE : Nat} (H : ∀ a6, dm_N a6 (dm_wo RE 7) → post (f0, f1, f2, f3, f4, a1, a2, a3, a4, a5, a6, a7)) :
    ∀ k i a6, i + k = 7 → dm_N a6 (dm_wo RE i) → wX_findReach_170 post f0 f1 f2 f3 f4 (k + 1) (nI i) a1 a2 a3 a4 a5 a6 a7
  | 0, i, a6, h, h6 => by
    have e : i = 7 := by omega
    subst e
    exact br_t (by decide) (H a6 h6)
  | k + 1, i, a6, h, h6 => by
    have hi : i < 7 := by omega
    exact br_f (dm_n7 i hi) ⟨8, dm_w178 (A := dm_wo RE i) hi (fun a6' h6' => dm_w170 H k (i + 1) a6' (by omega) h6') 7 0 a6 rfl h6⟩
theorem dm_vreach {RE : Nat} {K : Nat → Nat → Nat → Nat → Bool} (h1 : dm_N a1 E) (h2 : dm_B a2 PR) (h3 : dm_B a3 PC) (h6 : dm_N a6 RE)
    (hk : dm_rd E PR PC K 8 (dm_fre PR 7) 0 0 (dm_fre PC 7) = true)
    (H : ∀ rfr cfr rfc cfc a6, K rfr cfr rfc cfc = true → dm_N a6 (dm_wo (dm_re0 E PC RE 7) 7) → post (f0, nI rfr, nI cfr, nI rfc, nI cfc, a1, a2, a3, a4, a5, a6, a7)) :
    wpX_findReach post (f0, f1, 0, 0, f4, a1, a2, a3, a4, a5, a6, a7) := by
  refine ⟨8, dm_w12 h2 h3 ⟨9, dm_w68 h1 h2 h3 (fun rfr cfr rfc cfc hK => ?_) 8 0 _ 0 0 _ rfl hk⟩ 7 0 rfl⟩
  exact ⟨8, dm_w140 h1 h3 (fun a6' h6' => ⟨8, dm_w170 (fun a6'' h6'' => H rfr cfr rfc cfc a6'' hK h6'') 7 0 a6' rfl h6'⟩) 7 0 a6 rfl h6⟩
end
/-! findUsable -/
theorem dm_dc : ∀ v, v < 8 → ∀ c, c < 7 → (dm_d v = nI c ↔ v = c + 1) := by decide +kernel
theorem dm_iu01 (PR PC rfr cfc RE r c : Nat) : dm_iu PR PC rfr cfc RE r c = 0 ∨ dm_iu PR PC rfr cfc RE r c = 1 := by
  unfold dm_iu
  cases Nat.xor (dm_g PR r) (Nat.succ c) with
  | zero => exact Or.inr rfl
  | succ _ =>
    cases dm_b rfr r with
    | succ _ => exact Or.inr rfl
    | zero =>
      cases dm_b cfc c with
      | succ _ => exact Or.inr rfl
      | zero =>
        cases h : dm_g PC c with
        | zero => exact Or.inl rfl
        | succ v => exact dm_b01 _ _
theorem dm_viu {post : Int32 → Prop} {f0 f2 f3 : Int32} {a1 a2 a3 a4 a5 a6 a7 : Nat → Int32} {PR PC RE rfr cfc r c : Nat} (h2 : dm_B a2 PR) (h3 : dm_B a3 PC) (h6 : dm_N a6 RE) (hr : r < 7) (hc : c < 7)
    (H : post (nI (dm_iu PR PC rfr cfc RE r c))) : wpX_isUsable post (f0, nI rfr, f2, f3, nI cfc, a1, a2, a3, a4, a5, a6, a7) (nI r) (nI c) := by
  refine ⟨dm_in hr, ?_⟩
  rw [nI_clamp (show r < 2 ^ 31 by omega), (h2 r hr).2]
  unfold dm_iu at H
  by_cases e : dm_g PR r = c + 1
  · rw [dm_z0 (dm_x0.mpr e)] at H
    exact br_t ((dm_dc _ (h2 r hr).1 c hc).mpr e) H
  · rw [dm_z1 (dm_xn e)] at H
    refine br_f (fun z => e ((dm_dc _ (h2 r hr).1 c hc).mp z)) (dm_bz (by omega) (fun hb => dm_bz (by omega) (fun hb2 => ⟨dm_in hc, ?_⟩) (fun hb2 => ?_)) (fun hb => ?_))
    · rw [hb, hb2] at H
      rw [nI_clamp (show c < 2 ^ 31 by omega), (h3 c hc).2]
      have hv := (h3 c hc).1
      cases e3 : dm_g PC c with
      | zero =>
        rw [e3] at H
        exact nm_e (br_t (by decide) H)
      | succ v =>
        rw [e3] at H
        have hv7 : v < 7 := by omega
        refine nm_e (br_f (nI_pos (by omega)) ⟨dm_in hv7, ?_⟩)
        rw [show a6 (dm_d (v + 1)).toNatClampNeg = nI (dm_g RE v) by
          show a6 (nI v).toNatClampNeg = _
          rw [nI_clamp (show v < 2 ^ 31 by omega), h6 v hv7]]
        have H' : post (nI (dm_b (dm_g RE v) r)) := H
        exact dm_bz (x := dm_g RE v) (c := r) (by omega) (fun hb3 => by rw [hb3] at H'; exact H') (fun hb3 => by rw [hb3] at H'; exact H')
    · rw [hb, hb2] at H; exact H
    · rw [hb] at H; exact H
end
section
/-! findUsable, its loops -/
section
variable {post : St2 → Prop} {f0 f2 f3 : Int32} {a1 a2 a3 a4 a5 a6 : Nat → Int32} {E PR PC RE rfr cfc : Nat}
theorem dm_u_s0 {r i : Nat} (h : dm_b (dm_g E r) i = 0) : dm_u E PR PC rfr cfc RE r (i + 1) = dm_u E PR PC rfr cfc RE r i := by
  show Nat.lor (dm_u E PR PC rfr cfc RE r i) (Nat.shiftLeft (dm_z (dm_b (dm_g E r) i) 0 (dm_iu PR PC rfr cfc RE r i)) i) = _
  rw [dm_z0 h]
  show _ ||| (0 <<< i) = _
  rw [Nat.zero_shiftLeft]
  exact Nat.or_zero _
theorem dm_u_s1 {r i : Nat} (h : dm_b (dm_g E r) i = 1) (h2 : dm_iu PR PC rfr cfc RE r i = 0) : dm_u E PR PC rfr cfc RE r (i + 1) = dm_u E PR PC rfr cfc RE r i := by
  show Nat.lor (dm_u E PR PC rfr cfc RE r i) (Nat.shiftLeft (dm_z (dm_b (dm_g E r) i) 0 (dm_iu PR PC rfr cfc RE r i)) i) = _
  rw [dm_z1 (by omega), h2]
  show _ ||| (0 <<< i) = _
  rw [Nat.zero_shiftLeft]
  exact Nat.or_zero _
theorem dm_u_s2 {r i : Nat} (h : dm_b (dm_g E r) i = 1) (h2 : dm_iu PR PC rfr cfc RE r i = 1) : dm_u E PR PC rfr cfc RE r (i + 1) = Nat.lor (dm_u E PR PC rfr cfc RE r i) (Nat.shiftLeft 1 i) := by
  show Nat.lor (dm_u E PR PC rfr cfc RE r i) (Nat.shiftLeft (dm_z (dm_b (dm_g E r) i) 0 (dm_iu PR PC rfr cfc RE r i)) i) = _
  rw [dm_z1 (by omega), h2]
theorem dm_u_lt {r : Nat} : ∀ i, i ≤ 7 → dm_u E PR PC rfr cfc RE r i < 128
  | 0, _ => (by decide : (0 : Nat) < 128)
  | i + 1, hi => by
    have ih := dm_u_lt (r := r) i (by omega)
    rcases dm_b01 (dm_g E r) i with hb | hb
    · rw [dm_u_s0 hb]; exact ih
    · rcases dm_iu01 PR PC rfr cfc RE r i with h2 | h2
      · rw [dm_u_s1 hb h2]; exact ih
      · rw [dm_u_s2 hb h2]; exact dm_or_lt ih (dm_shl_lt i (by omega))
theorem dm_w17 {J : Int32 → (Nat → Int32) → (Nat → Int32) → (Nat → Int32) → (Nat → Int32) → (Nat → Int32) → (Nat → Int32) → (Nat → Int32) → Prop} {r A : Nat} (hr : r < 7)
    (h1 : dm_N a1 E) (h2 : dm_B a2 PR) (h3 : dm_B a3 PC) (h6 : dm_N a6 RE)
    (H : ∀ a7, dm_N a7 (dm_p A r (dm_u E PR PC rfr cfc RE r 7)) → J (nI (r + 1)) a1 a2 a3 a4 a5 a6 a7) :
    ∀ k i a7, i + k = 7 → dm_N a7 (dm_p A r (dm_u E PR PC rfr cfc RE r i)) → wX_findUsable_17 post J (nI r) f0 (nI rfr) f2 f3 (nI cfc) (k + 1) (nI i) a1 a2 a3 a4 a5 a6 a7
  | 0, i, a7, h, h7 => by
    have e : i = 7 := by omega
    subst e
    exact br_t (by decide) (nm_r (nI_1 r) (H a7 h7))
  | k + 1, i, a7, h, h7 => by
    have hi : i < 7 := by omega
    have ih := fun a7 => dm_w17 hr h1 h2 h3 h6 H k (i + 1) a7 (by omega)
    have hu := dm_u_lt (E := E) (PR := PR) (PC := PC) (RE := RE) (rfr := rfr) (cfc := cfc) (r := r) i (by omega)
    refine br_f (dm_n7 i hi) ⟨dm_in hr, ?_⟩
    rw [nI_clamp (by omega), h1 r hr]
    refine dm_bz (by omega) (fun hb => nm_r (nI_1 i) (ih a7 ?_)) (fun hb => dm_viu h2 h3 h6 hr hi ?_)
    · rw [dm_u_s0 hb]; exact h7
    · rcases dm_iu01 PR PC rfr cfc RE r i with e2 | e2
      · rw [e2]
        refine br_t rfl (nm_r (nI_1 i) (ih a7 ?_))
        rw [dm_u_s1 hb e2]; exact h7
      · rw [e2]
        refine br_f (by decide) ⟨dm_in hr, dm_in hr, ?_⟩
        rw [h7 r hr, dm_gp (by omega), dm_nshl1 (by omega), dm_nor]
        refine nm_e (nm_r (nI_1 i) (ih _ ?_))
        rw [dm_u_s2 hb e2]
        exact dm_Nu (dm_or_lt8 (by omega) (Nat.lt_trans (dm_shl_lt i hi) (by decide))) (fun j hj hn => by rw [h7 j hj, dm_gn (by omega) hn])
theorem dm_w2 {US : Nat} (h1 : dm_N a1 E) (h2 : dm_B a2 PR) (h3 : dm_B a3 PC) (h6 : dm_N a6 RE)
    (H : ∀ a7, dm_N a7 (dm_uo E PR PC rfr cfc RE US 7) → post (f0, nI rfr, f2, f3, nI cfc, a1, a2, a3, a4, a5, a6, a7)) :
    ∀ k i a7, i + k = 7 → dm_N a7 (dm_uo E PR PC rfr cfc RE US i) → wX_findUsable_2 post f0 (nI rfr) f2 f3 (nI cfc) (k + 1) (nI i) a1 a2 a3 a4 a5 a6 a7
  | 0, i, a7, h, h7 => by
    have e : i = 7 := by omega
    subst e
    exact br_t (by decide) (H a7 h7)
  | k + 1, i, a7, h, h7 => by
    have hi : i < 7 := by omega
    refine br_f (dm_n7 i hi) ⟨dm_in hi, ?_⟩
    rw [nI_clamp (by omega)]
    refine nm_e ⟨8, dm_w17 (A := dm_uo E PR PC rfr cfc RE US i) hi h1 h2 h3 h6 (fun a7' h7' => dm_w2 h1 h2 h3 h6 H k (i + 1) a7' (by omega) h7') 7 0 _ rfl ?_⟩
    exact dm_Nu (v := 0) (by decide) (fun j hj _ => h7 j hj)
theorem dm_vus {US : Nat} {a7 : Nat → Int32} (h1 : dm_N a1 E) (h2 : dm_B a2 PR) (h3 : dm_B a3 PC) (h6 : dm_N a6 RE) (h7 : dm_N a7 US)
    (H : ∀ a7, dm_N a7 (dm_uo E PR PC rfr cfc RE US 7) → post (f0, nI rfr, f2, f3, nI cfc, a1, a2, a3, a4, a5, a6, a7)) :
    wpX_findUsable post (f0, nI rfr, f2, f3, nI cfc, a1, a2, a3, a4, a5, a6, a7) :=
  ⟨8, dm_w2 h1 h2 h3 h6 H 7 0 a7 rfl h7⟩
end
end
section
/-! turnPath -/
section
variable {f0 f1 f2 f3 f4 : Int32} {a1 a6 a7 : Nat → Int32}
theorem dm_tp_s (CF start : Nat) (K : Nat → Nat → Bool) (k c PR PC : Nat) : dm_tp CF start K (k + 1) c PR PC
    = dm_z (Nat.xor (dm_g CF c) start) (K (dm_p PR (dm_g CF c) (Nat.succ c)) (dm_p PC c (Nat.succ (dm_g CF c)))) (dm_z (dm_g PR (dm_g CF c)) false (dm_tp CF start K k (Nat.sub (dm_g PR (dm_g CF c)) 1) (dm_p PR (dm_g CF c) (Nat.succ c)) (dm_p PC c (Nat.succ (dm_g CF c))))) := by
  show dm_f (dm_g CF c) (fun r => dm_f (dm_g PR r) (fun v => dm_f (dm_p PR r (Nat.succ c)) (fun PR' => dm_f (dm_p PC c (Nat.succ r)) (fun PC' => dm_z (Nat.xor r start) (K PR' PC') (dm_z v false (dm_tp CF start K k (Nat.sub v 1) PR' PC')))))) = _
  rw [dm_fe, dm_fe, dm_fe, dm_fe]
theorem dm_w5 {post : St2 → Prop} {a4 a5 : Nat → Int32} {CF start : Nat} {K : Nat → Nat → Bool} (h5 : dm_S a5 CF) (hs : start < 7)
    (H : ∀ PR PC a2 a3, dm_B a2 PR → dm_B a3 PC → K PR PC = true → post (f0, f1, f2, f3, f4, a1, a2, a3, a4, a5, a6, a7)) :
    ∀ k i c PR PC a2 a3, i + k = 7 → c < 7 → dm_B a2 PR → dm_B a3 PC → dm_tp CF start K k c PR PC = true → wX_turnPath_5 post (nI start) f0 f1 f2 f3 f4 (k + 1) (nI c) (nI i) a1 a2 a3 a4 a5 a6 a7
  | 0, i, c, PR, PC, a2, a3, h, hc, h2, h3, hk => by
    have e : i = 7 := by omega
    subst e
    exact br_t (by decide) (H PR PC a2 a3 h2 h3 hk)
  | k + 1, i, c, PR, PC, a2, a3, h, hc, h2, h3, hk => by
    have hi : i < 7 := by omega
    rw [dm_tp_s] at hk
    obtain ⟨hr, e5⟩ := h5 c hc
    obtain ⟨hv, e2⟩ := h2 _ hr
    refine br_f (dm_n7 i hi) ⟨dm_in hc, ?_⟩
    rw [nI_clamp (show c < 2 ^ 31 by omega)]
    refine nm_r e5 ⟨dm_in hr, ?_⟩
    rw [nI_clamp (show dm_g CF c < 2 ^ 31 by omega)]
    refine nm_r e2 ⟨dm_in hr, ?_⟩
    rw [dm_i8 c hc, dm_i8 _ hr]
    refine nm_e ⟨dm_in hc, nm_e ?_⟩
    have g2 : dm_B (upd a2 (dm_g CF c) (nI c)) (dm_p PR (dm_g CF c) (c + 1)) := dm_Bu (v := c + 1) (by omega) h2
    have g3 : dm_B (upd a3 c (nI (dm_g CF c))) (dm_p PC c (dm_g CF c + 1)) := dm_Bu (v := dm_g CF c + 1) (by omega) h3
    refine pk_eq (dm_g CF c) start (fun e => ?_) (fun e => ?_)
    · rw [dm_z0 (dm_x0.mpr e)] at hk
      exact H _ _ _ _ g2 g3 hk
    · rw [dm_z1 (dm_xn e)] at hk
      cases ev : dm_g PR (dm_g CF c) with
      | zero =>
        rw [dm_z0 ev] at hk
        exact absurd hk (by decide)
      | succ v =>
        rw [ev] at hk
        exact nm_r (nI_1 i) (dm_w5 h5 hs H k (i + 1) v _ _ _ _ (by omega) (by omega) g2 g3 hk)
theorem dm_vtp {post : St2 → Prop} {a2 a3 a4 a5 : Nat → Int32} {PR PC CF start c : Nat} {K : Nat → Nat → Bool} (h2 : dm_B a2 PR) (h3 : dm_B a3 PC) (h5 : dm_S a5 CF) (hc : c < 7) (hs : start < 7)
    (hk : dm_tp CF start K 7 c PR PC = true)
    (H : ∀ PR PC a2 a3, dm_B a2 PR → dm_B a3 PC → K PR PC = true → post (f0, f1, f2, f3, f4, a1, a2, a3, a4, a5, a6, a7)) :
    wpX_turnPath post (f0, f1, f2, f3, f4, a1, a2, a3, a4, a5, a6, a7) (nI c) (nI start) :=
  ⟨8, dm_w5 h5 hs H 7 0 c PR PC a2 a3 rfl hc h2 h3 hk⟩
/-! augment -/
theorem dm_ac {x s c : Nat} {A B : Prop} (hc : c < 32) (f : Nat.sub (dm_b x c) (dm_b s c) = 0 → A) (g : Nat.sub (dm_b x c) (dm_b s c) ≠ 0 → B) :
    (((nI x &&& (nI s ^^^ (-1))) &&& ((1 : Int32) <<< (nI c &&& 31))) = 0 → A) ∧ (¬ ((nI x &&& (nI s ^^^ (-1))) &&& ((1 : Int32) <<< (nI c &&& 31))) = 0 → B) := by
  have hbit : ∀ i, i < 32 → dm_bt ((nI x &&& (nI s ^^^ (-1))) &&& ((1 : Int32) <<< (nI c &&& 31))) i = ((x.testBit i && !(s.testBit i)) && decide (i = c)) := by
    intro i hi
    rw [dm_nshl1 hc, dm_band, dm_band, dm_bxor, dm_bn hi, dm_bn hi, dm_bn hi, dm_bm1 i hi]
    show _ = _
    rw [show (Nat.shiftLeft 1 c).testBit i = decide (i = c) by
      show (1 <<< c).testBit i = _
      rw [Nat.testBit_shiftLeft, dm_tb1]
      by_cases e : i = c
      · subst e; simp
      · by_cases e2 : c ≤ i
        · rw [decide_eq_false e, decide_eq_false (show ¬ i - c = 0 by omega), Bool.and_false]
        · rw [decide_eq_false e, decide_eq_false (show ¬ i ≥ c by omega), Bool.false_and]]
    rw [Bool.xor_true]
  rw [dm_tb, dm_tb] at f g
  by_cases e : (x.testBit c && !(s.testBit c)) = true
  · refine br_f (fun z => ?_) (g ?_)
    · have h1 := hbit c hc
      rw [z, dm_b0, e] at h1
      simp at h1
    · cases hx : x.testBit c <;> cases hs : s.testBit c <;> rw [hx, hs] at e <;> first | exact absurd e (by decide) | decide
  · refine br_t (dm_bext (fun i hi => ?_)) (f ?_)
    · rw [hbit i hi, dm_b0]
      by_cases e2 : i = c
      · subst e2
        rw [Bool.not_eq_true] at e
        rw [e, Bool.false_and]
      · rw [decide_eq_false e2, Bool.and_false]
    · cases hx : x.testBit c <;> cases hs : s.testBit c <;> rw [hx, hs] at e <;> first | exact absurd rfl e | rfl
end
section
variable {post : Int32 → St2 → Prop} {f0 f1 f2 f3 f4 : Int32} {a1 a2 a3 a6 a7 : Nat → Int32} {E PR PC start : Nat} {K : Nat → Nat → Nat → Nat → Nat → Bool}
theorem dm_ai_s (r : Nat) (C : Nat → Nat → Nat → Nat → Bool) (k en seen Q CF : Nat) : dm_ai E PR PC start r K C (k + 1) en seen Q CF
    = dm_z (Nat.sub (dm_b (dm_g E r) (Nat.sub 6 k)) (dm_b seen (Nat.sub 6 k))) (dm_ai E PR PC start r K C k en seen Q CF)
      (dm_z (dm_g PC (Nat.sub 6 k)) (dm_tp (dm_p CF (Nat.sub 6 k) r) start (fun PR' PC' => K 1 PR' PC' Q (dm_p CF (Nat.sub 6 k) r)) 7 (Nat.sub 6 k) PR PC)
          (dm_z (Nat.sub 7 en) false (dm_ai E PR PC start r K C k (Nat.succ en) (Nat.lor seen (Nat.shiftLeft 1 (Nat.sub 6 k))) (dm_p Q en (Nat.sub (dm_g PC (Nat.sub 6 k)) 1)) (dm_p CF (Nat.sub 6 k) r)))) := by
  show dm_z (Nat.sub (dm_b (dm_g E r) (Nat.sub 6 k)) (dm_b seen (Nat.sub 6 k))) (dm_ai E PR PC start r K C k en seen Q CF)
      (dm_f (Nat.lor seen (Nat.shiftLeft 1 (Nat.sub 6 k))) (fun seen' => dm_f (dm_p CF (Nat.sub 6 k) r) (fun CF' =>
        dm_z (dm_g PC (Nat.sub 6 k)) (dm_tp CF' start (fun PR' PC' => K 1 PR' PC' Q CF') 7 (Nat.sub 6 k) PR PC)
          (dm_z (Nat.sub 7 en) false (dm_f (dm_p Q en (Nat.sub (dm_g PC (Nat.sub 6 k)) 1)) (fun Q' => dm_ai E PR PC start r K C k (Nat.succ en) seen' Q' CF')))))) = _
  rw [dm_fe, dm_fe, dm_fe]
theorem dm_w33 {J : Int32 → Int32 → Int32 → (Nat → Int32) → (Nat → Int32) → (Nat → Int32) → (Nat → Int32) → (Nat → Int32) → (Nat → Int32) → (Nat → Int32) → Prop} {C : Nat → Nat → Nat → Nat → Bool} {r pos : Nat}
    (h1 : dm_N a1 E) (h2 : dm_B a2 PR) (h3 : dm_B a3 PC) (hr : r < 7) (hs : start < 7)
    (HT : ∀ PR PC Q CF a2 a3 a4 a5, dm_B a2 PR → dm_B a3 PC → dm_S a4 Q → dm_S a5 CF → K 1 PR PC Q CF = true → post 1 (f0, f1, f2, f3, f4, a1, a2, a3, a4, a5, a6, a7))
    (HC : ∀ en seen Q CF a4 a5, en ≤ 7 → dm_S a4 Q → dm_S a5 CF → C en seen Q CF = true → J (nI en) (nI seen) (nI (pos + 1)) a1 a2 a3 a4 a5 a6 a7) :
    ∀ k i en seen Q CF a4 a5, i + k = 7 → en ≤ 7 → dm_S a4 Q → dm_S a5 CF → dm_ai E PR PC start r K C k en seen Q CF = true →
      wX_augment_33 post J (nI start) (nI pos) (nI r) f0 f1 f2 f3 f4 (k + 1) (nI en) (nI seen) (nI i) a1 a2 a3 a4 a5 a6 a7
  | 0, i, en, seen, Q, CF, a4, a5, h, hen, h4, h5, hk => by
    have e : i = 7 := by omega
    subst e
    exact br_t (by decide) (nm_r (nI_1 pos) (HC en seen Q CF a4 a5 hen h4 h5 hk))
  | k + 1, i, en, seen, Q, CF, a4, a5, h, hen, h4, h5, hk => by
    have hi : i < 7 := by omega
    rw [dm_ai_s, show Nat.sub 6 k = i from (by omega : 6 - k = i)] at hk
    refine br_f (dm_n7 i hi) ⟨dm_in hr, ?_⟩
    rw [nI_clamp (by omega), h1 r hr]
    refine dm_ac (by omega) (fun e => ?_) (fun e => ?_)
    · rw [dm_z0 e] at hk
      exact nm_r (nI_1 i) (dm_w33 h1 h2 h3 hr hs HT HC k (i + 1) en seen Q CF a4 a5 (by omega) hen h4 h5 hk)
    · rw [dm_z1 e] at hk
      obtain ⟨hv, e3⟩ := h3 i hi
      have g5 : dm_S (upd a5 i (nI r)) (dm_p CF i r) := dm_Su hr h5
      refine nm_r (show _ = nI (Nat.lor seen (Nat.shiftLeft 1 i)) by rw [dm_nshl1 (by omega), dm_nor]) ⟨dm_in hi, ?_⟩
      rw [nI_clamp (show i < 2 ^ 31 by omega), dm_i8 r hr, e3]
      refine nm_e ⟨dm_in hi, ?_⟩
      cases ev : dm_g PC i with
      | zero =>
        rw [dm_z0 ev] at hk
        exact br_f dm_neg (dm_vtp h2 h3 g5 hi hs hk (fun PR' PC' a2' a3' q2 q3 hK => HT PR' PC' Q _ a2' a3' a4 _ q2 q3 h4 g5 hK))
      | succ v =>
        rw [dm_z1 (by omega), ev] at hk
        by_cases e7 : Nat.sub 7 en = 0
        · rw [dm_z0 e7] at hk; exact absurd hk (by decide)
        · rw [dm_z1 e7] at hk
          have hen7 : en < 7 := by
            have : ¬ 7 - en = 0 := e7
            omega
          refine br_t (nI_pos' (by omega)) ⟨dm_in hi, dm_in hen7, ?_⟩
          rw [nI_clamp (show en < 2 ^ 31 by omega), vp_nar_byte]
          show ∀ a4_17 : Nat → Int32, a4_17 = upd a4 en (nI v).toInt8.toInt32 → _
          rw [dm_i8 v (by omega)]
          exact nm_e (nm_r (nI_1 en) (nm_r (nI_1 i) (dm_w33 h1 h2 h3 hr hs HT HC k (i + 1) (en + 1) _ _ _ _ _ (by omega) (by omega) (dm_Su (by omega) h4) g5 hk)))
theorem dm_ao_s (k en seen Q CF : Nat) : dm_ao E PR PC start K (k + 1) en seen Q CF
    = dm_z (Nat.sub en (Nat.sub 7 k)) (K 0 PR PC Q CF) (dm_ai E PR PC start (dm_g Q (Nat.sub 7 k)) K (dm_ao E PR PC start K k) 7 en seen Q CF) := by
  show dm_z (Nat.sub en (Nat.sub 7 k)) (K 0 PR PC Q CF) (dm_f (dm_g Q (Nat.sub 7 k)) (fun r => dm_ai E PR PC start r K (dm_ao E PR PC start K k) 7 en seen Q CF)) = _
  rw [dm_fe]
theorem dm_w15 (h1 : dm_N a1 E) (h2 : dm_B a2 PR) (h3 : dm_B a3 PC) (hs : start < 7)
    (HT : ∀ PR PC Q CF a2 a3 a4 a5, dm_B a2 PR → dm_B a3 PC → dm_S a4 Q → dm_S a5 CF → K 1 PR PC Q CF = true → post 1 (f0, f1, f2, f3, f4, a1, a2, a3, a4, a5, a6, a7))
    (HF : ∀ Q CF a4 a5, dm_S a4 Q → dm_S a5 CF → K 0 PR PC Q CF = true → post 0 (f0, f1, f2, f3, f4, a1, a2, a3, a4, a5, a6, a7)) :
    ∀ k pos en seen Q CF a4 a5, pos + k = 7 → en ≤ 7 → dm_S a4 Q → dm_S a5 CF → dm_ao E PR PC start K (k + 1) en seen Q CF = true →
      wX_augment_15 post (nI start) f0 f1 f2 f3 f4 (k + 1) (nI en) (nI seen) (nI pos) a1 a2 a3 a4 a5 a6 a7
  | 0, pos, en, seen, Q, CF, a4, a5, h, hen, h4, h5, hk => by
    have e : pos = 7 := by omega
    subst e
    rw [dm_ao_s, dm_z0 (show Nat.sub en (Nat.sub 7 0) = 0 from Nat.sub_eq_zero_of_le hen)] at hk
    exact br_t (nI_le hen (by decide)) (HF Q CF a4 a5 h4 h5 hk)
  | k + 1, pos, en, seen, Q, CF, a4, a5, h, hen, h4, h5, hk => by
    rw [dm_ao_s, show Nat.sub 7 (k + 1) = pos from (by omega : 7 - (k + 1) = pos)] at hk
    refine pk_le en pos (fun e => ?_) (fun e => ?_)
    · rw [dm_z0 (show Nat.sub en pos = 0 from Nat.sub_eq_zero_of_le e)] at hk
      exact HF Q CF a4 a5 h4 h5 hk
    · rw [dm_z1 (show Nat.sub en pos ≠ 0 from (by omega : en - pos ≠ 0))] at hk
      obtain ⟨hq, e4⟩ := h4 pos (by omega)
      refine ⟨dm_in (by omega), ?_⟩
      rw [nI_clamp (by omega)]
      exact nm_r e4 ⟨8, dm_w33 h1 h2 h3 hq hs HT (fun en' seen' Q' CF' a4' a5' q1 q4 q5 qk => dm_w15 h1 h2 h3 hs HT HF k (pos + 1) en' seen' Q' CF' a4' a5' (by omega) q1 q4 q5 qk) 7 0 en seen Q CF a4 a5 rfl hen h4 h5 hk⟩
theorem dm_vau {a4 a5 : Nat → Int32} {Q CF : Nat} (h1 : dm_N a1 E) (h2 : dm_B a2 PR) (h3 : dm_B a3 PC) (h4 : dm_S a4 Q) (h5 : dm_S a5 CF) (hs : start < 7)
    (hk : dm_au E PR PC Q CF start K = true)
    (HT : ∀ PR PC Q CF a2 a3 a4 a5, dm_B a2 PR → dm_B a3 PC → dm_S a4 Q → dm_S a5 CF → K 1 PR PC Q CF = true → post 1 (f0, f1, f2, f3, f4, a1, a2, a3, a4, a5, a6, a7))
    (HF : ∀ Q CF a4 a5, dm_S a4 Q → dm_S a5 CF → K 0 PR PC Q CF = true → post 0 (f0, f1, f2, f3, f4, a1, a2, a3, a4, a5, a6, a7)) :
    wpX_augment post (f0, f1, f2, f3, f4, a1, a2, a3, a4, a5, a6, a7) (nI start) := by
  unfold dm_au at hk
  rw [dm_fe] at hk
  unfold wpX_augment
  dsimp only
  rw [dm_i8 start hs]
  exact nm_e ⟨8, dm_w15 h1 h2 h3 hs HT HF 7 0 1 0 _ CF _ a5 rfl (by decide) (dm_Su hs h4) h5 hk⟩
end
end
section
/-! prepare -/
section
variable {post : St2 → Prop} {f0 f1 f2 f3 f4 : Int32} {a1 a6 a7 : Nat → Int32} {E : Nat}
theorem dm_wp15 {a2 a3 a4 a5 : Nat → Int32} (h2 : dm_B a2 0) (H : ∃ fu, wX_prepare_72 post fu 1 0 f0 f1 f2 f3 f4 a1 a2 a3 a4 a5 a6 a7) :
    ∀ k i, i + k = 7 → wX_prepare_15 post f0 f1 f2 f3 f4 (k + 1) (nI i) a1 a2 a3 a4 a5 a6 a7
  | 0, i, h => by
    have e : i = 7 := by omega
    subst e
    exact br_t (by decide) H
  | k + 1, i, h => by
    have hi : i < 7 := by omega
    refine br_f (dm_n7 i hi) ⟨dm_in hi, ?_⟩
    rw [nI_clamp (by omega), (h2 i hi).2, dm_g0]
    exact nm_e (br_t (by decide) (nm_r (nI_1 i) (dm_wp15 h2 H k (i + 1) (by omega))))
theorem dm_w86 {J : Int32 → Int32 → Int32 → Int32 → Int32 → Int32 → Int32 → (Nat → Int32) → (Nat → Int32) → (Nat → Int32) → (Nat → Int32) → (Nat → Int32) → (Nat → Int32) → (Nat → Int32) → Prop} {C : Nat → Nat → Nat → Nat → Nat → Bool} {rd : Nat}
    (h1 : dm_N a1 E)
    (HC : ∀ gr PR PC Q CF a2 a3 a4 a5, gr < 2 → dm_B a2 PR → dm_B a3 PC → dm_S a4 Q → dm_S a5 CF → C gr PR PC Q CF = true → J (nI gr) (nI (rd + 1)) f0 f1 f2 f3 f4 a1 a2 a3 a4 a5 a6 a7) :
    ∀ k i gr PR PC Q CF a2 a3 a4 a5, i + k = 7 → gr < 2 → dm_B a2 PR → dm_B a3 PC → dm_S a4 Q → dm_S a5 CF → dm_pr E C k gr PR PC Q CF = true →
      wX_prepare_86 post J (nI rd) (k + 1) (nI gr) (nI i) f0 f1 f2 f3 f4 a1 a2 a3 a4 a5 a6 a7
  | 0, i, gr, PR, PC, Q, CF, a2, a3, a4, a5, h, hg, h2, h3, h4, h5, hk => by
    have e : i = 7 := by omega
    subst e
    exact br_t (by decide) (nm_r (nI_1 rd) (HC gr PR PC Q CF a2 a3 a4 a5 hg h2 h3 h4 h5 hk))
  | k + 1, i, gr, PR, PC, Q, CF, a2, a3, a4, a5, h, hg, h2, h3, h4, h5, hk => by
    have hi : i < 7 := by omega
    have hk' : dm_z (dm_g PR (Nat.sub 6 k)) (dm_au E PR PC Q CF (Nat.sub 6 k) (fun t PR' PC' Q' CF' => dm_pr E C k (dm_z t gr 1) PR' PC' Q' CF')) (dm_pr E C k gr PR PC Q CF) = true := hk
    rw [show Nat.sub 6 k = i from (by omega : 6 - k = i)] at hk'
    obtain ⟨hv, e2⟩ := h2 i hi
    refine br_f (dm_n7 i hi) ⟨dm_in hi, ?_⟩
    rw [nI_clamp (by omega), e2]
    cases ev : dm_g PR i with
    | succ v =>
      rw [dm_z1 (by omega)] at hk'
      exact br_t (nI_pos' (by omega)) (nm_r (nI_1 i) (dm_w86 h1 HC k (i + 1) gr PR PC Q CF a2 a3 a4 a5 (by omega) hg h2 h3 h4 h5 hk'))
    | zero =>
      rw [dm_z0 ev] at hk'
      refine br_f dm_neg (dm_vau h1 h2 h3 h4 h5 hi hk' ?_ ?_)
      · intro PR' PC' Q' CF' a2' a3' a4' a5' q2 q3 q4 q5 qk
        exact br_f (by decide) (nm_r (nI_1 i) (dm_w86 h1 HC k (i + 1) 1 PR' PC' Q' CF' a2' a3' a4' a5' (by omega) (by decide) q2 q3 q4 q5 qk))
      · intro Q' CF' a4' a5' q4 q5 qk
        exact br_t rfl (nm_r (nI_1 i) (dm_w86 h1 HC k (i + 1) gr PR PC Q' CF' a2 a3 a4' a5' (by omega) hg h2 h3 q4 q5 qk))
theorem dm_w72 {K : Nat → Nat → Bool} (h1 : dm_N a1 E)
    (H : ∀ PR PC a2 a3 a4 a5, dm_B a2 PR → dm_B a3 PC → K PR PC = true → wX_prepare_123 post f0 f1 f2 f3 f4 a1 a2 a3 a4 a5 a6 a7) :
    ∀ k i gr PR PC Q CF a2 a3 a4 a5, i + k = 8 → gr < 2 → dm_B a2 PR → dm_B a3 PC → dm_S a4 Q → dm_S a5 CF → dm_ro E K k gr PR PC Q CF = true →
      wX_prepare_72 post (k + 1) (nI gr) (nI i) f0 f1 f2 f3 f4 a1 a2 a3 a4 a5 a6 a7
  | 0, i, gr, PR, PC, Q, CF, a2, a3, a4, a5, h, hg, h2, h3, h4, h5, hk => by
    have e : i = 8 := by omega
    subst e
    exact br_t (by decide) (H PR PC a2 a3 a4 a5 h2 h3 hk)
  | k + 1, i, gr, PR, PC, Q, CF, a2, a3, a4, a5, h, hg, h2, h3, h4, h5, hk => by
    have hk' : dm_z gr (K PR PC) (dm_pr E (dm_ro E K k) 7 0 PR PC Q CF) = true := hk
    refine br_f (dm_n8 i (by omega)) (pk_eq gr 0 (fun e => ?_) (fun e => ?_))
    · rw [dm_z0 e] at hk'
      exact H PR PC a2 a3 a4 a5 h2 h3 hk'
    · rw [dm_z1 e] at hk'
      exact ⟨8, dm_w86 h1 (fun gr' PR' PC' Q' CF' a2' a3' a4' a5' qg q2 q3 q4 q5 qk => dm_w72 h1 H k (i + 1) gr' PR' PC' Q' CF' a2' a3' a4' a5' (by omega) qg q2 q3 q4 q5 qk) 7 0 0 PR PC Q CF a2 a3 a4 a5 rfl (by decide) h2 h3 h4 h5 hk'⟩
theorem dm_w123 {a2 a3 a4 a5 : Nat → Int32} {PR PC RE US : Nat} {K : Nat → Nat → Nat → Nat → Nat → Nat → Bool}
    (h1 : dm_N a1 E) (h2 : dm_B a2 PR) (h3 : dm_B a3 PC) (h6 : dm_N a6 RE) (h7 : dm_N a7 US) (hk : dm_fin E PR PC RE US K = true)
    (H : ∀ rfr cfr rfc cfc RE US a6 a7, dm_N a6 RE → dm_N a7 US → K rfr cfr rfc cfc RE US = true → post (f0, nI rfr, nI cfr, nI rfc, nI cfc, a1, a2, a3, a4, a5, a6, a7)) :
    wX_prepare_123 post f0 f1 0 0 f4 a1 a2 a3 a4 a5 a6 a7 := by
  unfold dm_fin at hk
  rw [dm_fe, dm_fe] at hk
  unfold wX_prepare_123
  refine dm_vreach h1 h2 h3 h6 hk (fun rfr cfr rfc cfc a6' hK h6' => ?_)
  rw [dm_fe, dm_fe] at hK
  exact dm_vus h1 h2 h3 h6' h7 (fun a7' h7' => H rfr cfr rfc cfc _ _ a6' a7' h6' h7' hK)
theorem dm_vprep {a2 a3 a4 a5 : Nat → Int32} {K : Nat → Nat → Nat → Nat → Nat → Nat → Nat → Nat → Bool}
    (h1 : dm_N a1 E) (h2 : dm_B a2 0) (h3 : dm_B a3 0) (h4 : dm_S a4 0) (h5 : dm_S a5 0) (h6 : dm_N a6 0) (h7 : dm_N a7 0) (hk : dm_x E K = true)
    (H : ∀ PR PC rfr cfr rfc cfc RE US a2 a3 a4 a5 a6 a7, dm_B a2 PR → dm_B a3 PC → dm_N a7 US → K PR PC rfr cfr rfc cfc RE US = true → post (1, nI rfr, nI cfr, nI rfc, nI cfc, a1, a2, a3, a4, a5, a6, a7)) :
    wpX_prepare post (0, f1, 0, 0, f4, a1, a2, a3, a4, a5, a6, a7) := by
  refine br_t rfl ⟨8, dm_wp15 h2 ⟨9, dm_w72 h1 (fun PR PC a2' a3' a4' a5' q2 q3 qk => ?_) 8 0 1 0 0 0 0 a2 a3 a4 a5 rfl (by decide) h2 h3 h4 h5 hk⟩ 7 0 rfl⟩
  exact dm_w123 h1 q2 q3 h6 h7 qk (fun rfr cfr rfc cfc RE US a6' a7' q6 q7 qk' => H PR PC rfr cfr rfc cfc RE US a2' a3' a4' a5' a6' a7' q2 q3 q7 qk')
theorem dm_vrdy {a2 a3 a4 a5 : Nat → Int32} (H : post (1, f1, f2, f3, f4, a1, a2, a3, a4, a5, a6, a7)) : wpX_prepare post (1, f1, f2, f3, f4, a1, a2, a3, a4, a5, a6, a7) :=
  br_f (by decide) H
end
end
section
/-! the answers, over a prepared object -/
theorem dm_nz0 : dm_nz 0 = 0 := rfl
theorem dm_nz1 {n : Nat} (h : n ≠ 0) : dm_nz n = 1 := by
  show 1 - (1 - n) = 1
  omega
theorem dm_n6 : ∀ i, i < 7 → ¬ (6 : Int32) < nI i := by decide +kernel
section
variable {post : Int32 → St2 → Prop} {f0 f1 f2 f3 f4 : Int32} {a1 a2 a3 a4 a5 a6 a7 : Nat → Int32} {E PR US rfr cfr cfc : Nat}
theorem dm_wlar (h2 : dm_B a2 PR) (H : post (nI (dm_lar PR 7)) (f0, f1, f2, f3, f4, a1, a2, a3, a4, a5, a6, a7)) :
    ∀ k i, i + k = 7 → wX_largest_8 post f0 f1 f2 f3 f4 a1 a2 a3 a4 a5 a6 a7 (k + 1) (nI (dm_lar PR i)) (nI i)
  | 0, i, h => by
    have e : i = 7 := by omega
    subst e
    exact br_t (by decide) H
  | k + 1, i, h => by
    have hi : i < 7 := by omega
    have ih : wX_largest_8 post f0 f1 f2 f3 f4 a1 a2 a3 a4 a5 a6 a7 (k + 1) (nI (dm_lar PR i + dm_nz (dm_g PR i))) (nI (i + 1)) := dm_wlar h2 H k (i + 1) (by omega)
    obtain ⟨hv, e2⟩ := h2 i hi
    refine br_f (dm_n7 i hi) ⟨dm_in hi, ?_⟩
    rw [nI_clamp (by omega), e2]
    cases ev : dm_g PR i with
    | zero =>
      rw [ev, dm_nz0] at ih
      exact br_t (by decide) (nm_r (nI_1 i) ih)
    | succ v =>
      rw [ev, dm_nz1 (by omega)] at ih
      exact br_f (nI_pos (by omega)) (nm_r (nI_1 _) (nm_r (nI_1 i) ih))
theorem dm_w37 {J : Int32 → Int32 → Prop} {x i : Nat} (hi : i < 7) (H : J (nI (Nat.add x (dm_b cfr i))) (nI (i + 1))) : wX_cover_37 post J (nI x) (nI i) f0 f1 (nI cfr) f3 f4 a1 a2 a3 a4 a5 a6 a7 := by
  unfold wX_cover_37
  refine dm_bz (by omega) (fun hb => nm_r (nI_1 i) ?_) (fun hb => nm_r (nI_1 x) (nm_r (nI_1 i) ?_))
  · rw [hb] at H; exact H
  · rw [hb] at H; exact H
theorem dm_wcov (h1 : dm_N a1 E) (H : post (nI (dm_cov E rfr cfr 7)) (f0, nI rfr, nI cfr, f3, f4, a1, a2, a3, a4, a5, a6, a7)) :
    ∀ k i, i + k = 7 → wX_cover_8 post f0 (nI rfr) (nI cfr) f3 f4 a1 a2 a3 a4 a5 a6 a7 (k + 1) (nI (dm_cov E rfr cfr i)) (nI i)
  | 0, i, h => by
    have e : i = 7 := by omega
    subst e
    exact br_t (by decide) H
  | k + 1, i, h => by
    have hi : i < 7 := by omega
    have ih : wX_cover_8 post f0 (nI rfr) (nI cfr) f3 f4 a1 a2 a3 a4 a5 a6 a7 (k + 1) (nI (Nat.add (Nat.add (dm_cov E rfr cfr i) (dm_z (dm_g E i) 0 (Nat.sub 1 (dm_b rfr i)))) (dm_b cfr i))) (nI (i + 1)) := dm_wcov h1 H k (i + 1) (by omega)
    refine br_f (dm_n7 i hi) ⟨dm_in hi, ?_⟩
    rw [nI_clamp (by omega), h1 i hi]
    have hl := dm_gl E i
    refine pk_eq (dm_g E i) 0 (fun e => dm_w37 hi ?_) (fun e => dm_bz (by omega) (fun hb => nm_r (nI_1 _) (dm_w37 hi ?_)) (fun hb => dm_w37 hi ?_))
    · rw [dm_z0 e] at ih; exact ih
    · rw [dm_z1 e, hb] at ih; exact ih
    · rw [dm_z1 e, hb] at ih; exact ih
theorem dm_vnum {post : Int32 → Prop} {r : Nat} (hr : r < 7) (H : post 1) : wpX_isNumber post (f0, f1, f2, f3, f4, a1, a2, a3, a4, a5, a6, a7) (nI r) :=
  br_f (nI_pos (by omega)) (br_f (dm_n6 r hr) H)
theorem dm_vcov (h1 : dm_N a1 E) (H : post (nI (dm_cov E rfr cfr 7)) (1, nI rfr, nI cfr, f3, f4, a1, a2, a3, a4, a5, a6, a7)) :
    wpX_cover post (1, nI rfr, nI cfr, f3, f4, a1, a2, a3, a4, a5, a6, a7) :=
  dm_vrdy (post := fun u => match u with | (f0_ready_2, f0_rowsFromRows_3, f0_columnsFromRows_4, f0_rowsFromColumns_5, f0_columnsFromColumns_6, am11_9, am12_12, am13_15, am14_18, am15_21, am16_24, am17_27) => (∃ fu8 : Nat, wX_cover_8 post f0_ready_2 f0_rowsFromRows_3 f0_columnsFromRows_4 f0_rowsFromColumns_5 f0_columnsFromColumns_6 am11_9 am12_12 am13_15 am14_18 am15_21 am16_24 am17_27 fu8 0 0)) ⟨8, dm_wcov h1 H 7 0 rfl⟩
theorem dm_vlr (H : post f1 (1, f1, f2, f3, f4, a1, a2, a3, a4, a5, a6, a7)) : wpX_looseRows post (1, f1, f2, f3, f4, a1, a2, a3, a4, a5, a6, a7) :=
  br_f (by decide) H
theorem dm_vlc (H : post f4 (1, f1, f2, f3, f4, a1, a2, a3, a4, a5, a6, a7)) : wpX_looseColumns post (1, f1, f2, f3, f4, a1, a2, a3, a4, a5, a6, a7) :=
  br_f (by decide) H
theorem dm_vusb {r : Nat} (hr : r < 7) (h7 : dm_N a7 US) (H : post (nI (dm_g US r)) (1, f1, f2, f3, f4, a1, a2, a3, a4, a5, a6, a7)) :
    wpX_usable post (1, f1, f2, f3, f4, a1, a2, a3, a4, a5, a6, a7) (nI r) := by
  unfold wpX_usable
  dsimp only
  refine dm_vnum hr ?_
  refine br_f (by decide) ?_
  refine dm_vrdy ?_
  dsimp only
  refine ⟨dm_in hr, ?_⟩
  rw [nI_clamp (by omega), h7 r hr]
  exact H
theorem dm_vfo {r : Nat} (hr : r < 7) (h2 : dm_B a2 PR) (h7 : dm_N a7 US) (H : post (nI (dm_fo PR rfr cfc US r)) (1, nI rfr, f2, f3, nI cfc, a1, a2, a3, a4, a5, a6, a7)) :
    wpX_forced post (1, nI rfr, f2, f3, nI cfc, a1, a2, a3, a4, a5, a6, a7) (nI r) := by
  unfold wpX_forced
  dsimp only
  refine dm_vnum hr ?_
  refine br_f (by decide) ?_
  refine dm_vrdy ?_
  dsimp only
  refine ⟨dm_in hr, ?_⟩
  obtain ⟨hv, e2⟩ := h2 r hr
  rw [nI_clamp (by omega), e2, h7 r hr]
  unfold dm_fo at H
  cases ev : dm_g PR r with
  | zero =>
    rw [ev] at H
    exact nm_e (br_t (by decide) (br_t rfl H))
  | succ v =>
    have hv7 : v < 7 := by omega
    have hl := dm_gl US r
    have hsl := dm_shl_lt v hv7
    rw [ev, show Nat.sub (v + 1) 1 = v from rfl] at H
    refine nm_e (br_f (nI_pos (by omega)) (dm_bz (by omega) (fun hb => ?_) (fun hb => ?_)))
    · refine dm_bz (x := cfc) (c := v) (by omega) (fun hb2 => ⟨dm_in hr, ?_⟩) (fun hb2 => ?_)
      · rw [show (1 : Int32) <<< (dm_d (v + 1) &&& 31) = nI (Nat.shiftLeft 1 v) from dm_nshl1 (by omega)]
        rw [hb, hb2] at H
        refine pk_eq (dm_g US r) (Nat.shiftLeft 1 v) (fun e => ?_) (fun e => ?_)
        · refine br_f (by decide) ⟨dm_in hr, ?_⟩
          have H' : post (nI (dm_z (Nat.xor (dm_g US r) (Nat.shiftLeft 1 v)) (Nat.shiftLeft 1 v) 0)) (1, nI rfr, f2, f3, nI cfc, a1, a2, a3, a4, a5, a6, a7) := H
          rw [dm_z0 (dm_x0.mpr e)] at H'
          exact H'
        · refine br_t rfl ?_
          have H' : post (nI (dm_z (Nat.xor (dm_g US r) (Nat.shiftLeft 1 v)) (Nat.shiftLeft 1 v) 0)) (1, nI rfr, f2, f3, nI cfc, a1, a2, a3, a4, a5, a6, a7) := H
          rw [dm_z1 (dm_xn e)] at H'
          exact H'
      · rw [hb, hb2] at H
        exact br_t rfl H
    · rw [hb] at H
      exact br_t rfl H
end
/-! rowsOfBlock, blockRows -/
theorem dm_r2_s0 {US c x i : Nat} (h : Nat.land (dm_g US i) c = 0) : dm_r2 US c x (i + 1) = dm_r2 US c x i := by
  show Nat.lor (dm_r2 US c x i) (Nat.shiftLeft (dm_nz (Nat.land (dm_g US i) c)) i) = _
  rw [h, dm_nz0]
  show _ ||| (0 <<< i) = _
  rw [Nat.zero_shiftLeft]
  exact Nat.or_zero _
theorem dm_r2_s1 {US c x i : Nat} (h : Nat.land (dm_g US i) c ≠ 0) : dm_r2 US c x (i + 1) = Nat.lor (dm_r2 US c x i) (Nat.shiftLeft 1 i) := by
  show Nat.lor (dm_r2 US c x i) (Nat.shiftLeft (dm_nz (Nat.land (dm_g US i) c)) i) = _
  rw [dm_nz1 h]
section
variable {post : Int32 → Prop} {f0 f1 f2 f3 f4 : Int32} {a1 a2 a3 a4 a5 a6 a7 : Nat → Int32} {US : Nat}
theorem dm_w55 {J : Int32 → Int32 → Prop} {c x rd : Nat} (h7 : dm_N a7 US) (H : J (nI (dm_r2 US c x 7)) (nI (rd + 1))) :
    ∀ k i, i + k = 7 → wX_rowsOfBlock_55 post J (nI rd) (nI c) f0 f1 f2 f3 f4 a1 a2 a3 a4 a5 a6 a7 (k + 1) (nI (dm_r2 US c x i)) (nI i)
  | 0, i, h => by
    have e : i = 7 := by omega
    subst e
    exact br_t (by decide) (nm_r (nI_1 rd) H)
  | k + 1, i, h => by
    have hi : i < 7 := by omega
    have ih := dm_w55 h7 H k (i + 1) (by omega)
    have hl : Nat.land (dm_g US i) c < 256 := Nat.lt_of_le_of_lt (Nat.and_le_left (n := dm_g US i) (m := c)) (dm_gl US i)
    refine br_f (dm_n7 i hi) ⟨dm_in hi, ?_⟩
    rw [nI_clamp (by omega), h7 i hi, dm_nand]
    refine pk_eq (Nat.land (dm_g US i) c) 0 (fun e => nm_r (nI_1 i) ?_) (fun e => nm_r (by rw [dm_nshl1 (by omega), dm_nor]) (nm_r (nI_1 i) ?_))
    · rw [dm_r2_s0 e] at ih; exact ih
    · rw [dm_r2_s1 e] at ih; exact ih
theorem dm_w18 {J : Int32 → Int32 → Prop} {x rd : Nat} (h7 : dm_N a7 US) (H : J (nI (dm_r2 US (dm_cnt US x 7) x 7)) (nI (rd + 1))) :
    ∀ k i, i + k = 7 → wX_rowsOfBlock_18 post J (nI x) (nI rd) f0 f1 f2 f3 f4 a1 a2 a3 a4 a5 a6 a7 (k + 1) (nI (dm_cnt US x i)) (nI i)
  | 0, i, h => by
    have e : i = 7 := by omega
    subst e
    exact br_t (by decide) ⟨8, dm_w55 (x := x) h7 H 7 0 rfl⟩
  | k + 1, i, h => by
    have hi : i < 7 := by omega
    have ih := dm_w18 h7 H k (i + 1) (by omega)
    refine br_f (dm_n7 i hi) (dm_bz (by omega) (fun hb => nm_r (nI_1 i) ?_) (fun hb => ⟨dm_in hi, ?_⟩))
    · rw [dm_cnt_s0 hb] at ih; exact ih
    · rw [nI_clamp (by omega), h7 i hi]
      rw [dm_cnt_s1 hb] at ih
      exact nm_r (dm_nor _ _) (nm_r (nI_1 i) ih)
theorem dm_w6 {x : Nat} (h7 : dm_N a7 US) (H : post (nI (dm_rob US x 7))) :
    ∀ k i, i + k = 7 → wX_rowsOfBlock_6 post f0 f1 f2 f3 f4 a1 a2 a3 a4 a5 a6 a7 (k + 1) (nI (dm_rob US x i)) (nI i)
  | 0, i, h => by
    have e : i = 7 := by omega
    subst e
    exact br_t (by decide) H
  | k + 1, i, h => by
    have hi : i < 7 := by omega
    have ih := dm_w6 h7 H k (i + 1) (by omega)
    exact br_f (dm_n7 i hi) ⟨8, dm_w18 (x := dm_rob US x i) h7 ih 7 0 rfl⟩
end
theorem dm_vblk {post : Int32 → St2 → Prop} {f1 f2 f3 f4 : Int32} {a1 a2 a3 a4 a5 a6 a7 : Nat → Int32} {US r : Nat} (hr : r < 7) (h7 : dm_N a7 US)
    (H : post (nI (dm_blk US r)) (1, f1, f2, f3, f4, a1, a2, a3, a4, a5, a6, a7)) :
    wpX_blockRows post (1, f1, f2, f3, f4, a1, a2, a3, a4, a5, a6, a7) (nI r) := by
  unfold wpX_blockRows
  dsimp only
  refine dm_vnum hr ?_
  refine br_f (by decide) ?_
  refine dm_vrdy ?_
  dsimp only
  refine ⟨dm_in hr, ?_⟩
  rw [nI_clamp (by omega), h7 r hr]
  have hl := dm_gl US r
  unfold dm_blk at H
  refine pk_eq (dm_g US r) 0 (fun e => ?_) (fun e => ?_)
  · rw [dm_z0 e] at H; exact H
  · rw [dm_z1 e] at H
    exact nm_r (dm_nshl1 (by omega)) ⟨8, dm_w6 (x := Nat.shiftLeft 1 r) h7 H 7 0 rfl⟩
theorem dm_vrow {post : Int32 → St2 → Prop} {f0 f1 f2 f3 f4 : Int32} {a1 a2 a3 a4 a5 a6 a7 : Nat → Int32} {r v : Nat} (hr : r < 7) (hv : v < 128)
    (H : post 1 (0, f1, f2, f3, f4, upd a1 r (nI v), a2, a3, a4, a5, a6, a7)) :
    wpX_row post (f0, f1, f2, f3, f4, a1, a2, a3, a4, a5, a6, a7) (nI r) (nI v) := by
  unfold wpX_row
  dsimp only
  refine dm_vnum hr ?_
  refine br_f (by decide) ?_
  refine br_f (nI_pos (by omega)) ?_
  refine br_t (nI_le (b := 127) (by omega) (by decide)) ⟨dm_in hr, ?_⟩
  rw [nI_clamp (by omega)]
  exact nm_e H
end
section
/-! the law's own methods -/
theorem dm_zlt {n a b m : Nat} (ha : a < m) (hb : b < m) : dm_z n a b < m := by
  cases n with
  | zero => exact ha
  | succ n => exact hb
theorem dm_s30 {x : Nat} (h : 3 ≤ x) : Nat.sub 3 x = 0 := Nat.sub_eq_zero_of_le h
theorem dm_s31 {x : Nat} (h : x < 3) : Nat.sub 3 x ≠ 0 := (by omega : 3 - x ≠ 0)
theorem dm_l3a {x : Nat} (h : 3 ≤ x) : dm_l3 x = 0 := dm_z0 (dm_s30 h)
theorem dm_l3b {x : Nat} (h : x < 3) : dm_l3 x = 1 := dm_z1 (dm_s31 h)
theorem dm_l3lt (x : Nat) : dm_l3 x < 2 := dm_zlt (by decide) (by decide)
theorem dm_s73d (a b d : Nat) : dm_d (dm_s73 a b d) = nI (dm_l3 a + dm_l3 b + dm_l3 d) := by
  show dm_d (1 + dm_l3 a + dm_l3 b + dm_l3 d) = _
  rw [show 1 + dm_l3 a + dm_l3 b + dm_l3 d = (dm_l3 a + dm_l3 b + dm_l3 d) + 1 by omega]
  rfl
theorem dm_szlt (w a b d : Nat) : dm_sz w a b d < 5 := by
  have h73 : dm_s73 a b d < 5 := by
    have h1 := dm_l3lt a
    have h2 := dm_l3lt b
    have h3 := dm_l3lt d
    show 1 + dm_l3 a + dm_l3 b + dm_l3 d < 5
    omega
  have h61 : dm_s61 a b d < 5 := dm_zlt h73 (dm_zlt (by decide) h73)
  have h46 : dm_s46 a b d < 5 := dm_zlt h61 (dm_zlt (by decide) (dm_zlt (by decide) h61))
  have h28 : dm_s28 w a b d < 5 := dm_zlt h46 (dm_zlt (by decide) h46)
  have h13 : dm_s13 w a b d < 5 := dm_zlt h28 (dm_zlt (by decide) h28)
  exact dm_zlt h13 (dm_zlt (by decide) h13)
section
variable {post : Int32 → Prop} {w a b d : Nat}
theorem dm_ws93 {z0 z1 : Nat} (hd : d < 4) (H : post (nI (z1 + z0 + dm_l3 d))) : wL_size_93 post (nI d) (nI z0) (nI z1) := by
  unfold wL_size_93
  rw [nI_add]
  refine pk_le 3 d (fun h => ?_) (fun h => ?_)
  · rw [dm_l3a h] at H
    exact ek_v (nI_add (z1 + z0) 0) H
  · rw [dm_l3b h] at H
    exact ek_v (nI_add (z1 + z0) 1) H
theorem dm_ws83 {z0 : Nat} (hb : b < 4) (hd : d < 4) (H : post (nI (z0 + dm_l3 b + dm_l3 d))) : wL_size_83 post (nI b) (nI d) (nI z0) := by
  unfold wL_size_83
  refine pk_le 3 b (fun h => ?_) (fun h => ?_)
  · rw [dm_l3a h] at H
    exact dm_ws93 (z0 := 0) hd H
  · rw [dm_l3b h] at H
    exact dm_ws93 (z0 := 1) hd H
theorem dm_ws73 (ha : a < 4) (hb : b < 4) (hd : d < 4) (H : post (dm_d (dm_s73 a b d))) : wL_size_73 post (nI a) (nI b) (nI d) := by
  rw [dm_s73d] at H
  unfold wL_size_73
  refine pk_le 3 a (fun h => ?_) (fun h => ?_)
  · rw [dm_l3a h] at H
    exact dm_ws83 (z0 := 0) hb hd H
  · rw [dm_l3b h] at H
    exact dm_ws83 (z0 := 1) hb hd H
theorem dm_ws61 (ha : a < 4) (hb : b < 4) (hd : d < 4) (H : post (dm_d (dm_s61 a b d))) : wL_size_61 post (nI a) (nI b) (nI d) := by
  unfold wL_size_61
  unfold dm_s61 at H
  refine pk_le 3 b (fun h => dm_ws73 ha hb hd ?_) (fun h => pk_eq b d (fun e => ?_) (fun e => dm_ws73 ha hb hd ?_))
  · rw [dm_z0 (dm_s30 h)] at H; exact H
  · rw [dm_z1 (dm_s31 h), dm_z0 (dm_x0.mpr e)] at H; exact H
  · rw [dm_z1 (dm_s31 h), dm_z1 (dm_xn e)] at H; exact H
theorem dm_ws46 (ha : a < 4) (hb : b < 4) (hd : d < 4) (H : post (dm_d (dm_s46 a b d))) : wL_size_46 post (nI a) (nI b) (nI d) := by
  unfold wL_size_46
  unfold dm_s46 at H
  refine pk_le 3 a (fun h => dm_ws61 ha hb hd ?_) (fun h => pk_eq a b (fun e => ?_) (fun e => pk_eq a d (fun e2 => ?_) (fun e2 => dm_ws61 ha hb hd ?_)))
  · rw [dm_z0 (dm_s30 h)] at H; exact H
  · rw [dm_z1 (dm_s31 h), dm_z0 (dm_x0.mpr e)] at H; exact H
  · rw [dm_z1 (dm_s31 h), dm_z1 (dm_xn e), dm_z0 (dm_x0.mpr e2)] at H; exact H
  · rw [dm_z1 (dm_s31 h), dm_z1 (dm_xn e), dm_z1 (dm_xn e2)] at H; exact H
theorem dm_ws28 (ha : a < 4) (hb : b < 4) (hd : d < 4) (H : post (dm_d (dm_s28 w a b d))) : wL_size_28 post (nI w) (nI a) (nI b) (nI d) := by
  unfold wL_size_28
  unfold dm_s28 at H
  rw [show (6 : Int32) + nI d = nI (6 + d) from nI_add 6 d]
  refine pk_le 3 d (fun h => dm_ws46 ha hb hd ?_) (fun h => dm_bz (by omega) (fun e => ?_) (fun e => dm_ws46 ha hb hd ?_))
  · rw [dm_z0 (dm_s30 h)] at H; exact H
  · rw [dm_z1 (dm_s31 h), dm_z0 (show dm_b w (Nat.add 6 d) = 0 from e)] at H; exact H
  · rw [dm_z1 (dm_s31 h), dm_z1 (by show dm_b w (6 + d) ≠ 0; omega)] at H; exact H
theorem dm_ws13 (ha : a < 4) (hb : b < 4) (hd : d < 4) (H : post (dm_d (dm_s13 w a b d))) : wL_size_13 post (nI w) (nI a) (nI b) (nI d) := by
  unfold wL_size_13
  unfold dm_s13 at H
  rw [show (3 : Int32) + nI b = nI (3 + b) from nI_add 3 b]
  refine pk_le 3 b (fun h => dm_ws28 ha hb hd ?_) (fun h => dm_bz (by omega) (fun e => ?_) (fun e => dm_ws28 ha hb hd ?_))
  · rw [dm_z0 (dm_s30 h)] at H; exact H
  · rw [dm_z1 (dm_s31 h), dm_z0 (show dm_b w (Nat.add 3 b) = 0 from e)] at H; exact H
  · rw [dm_z1 (dm_s31 h), dm_z1 (by show dm_b w (3 + b) ≠ 0; omega)] at H; exact H
theorem dm_vsz {u : St0} (ha : a < 4) (hb : b < 4) (hd : d < 4) (H : post (dm_d (dm_sz w a b d))) : wpL_size post u (nI w) (nI a) (nI b) (nI d) := by
  unfold wpL_size
  unfold dm_sz at H
  refine pk_le 3 a (fun h => dm_ws13 ha hb hd ?_) (fun h => dm_bz (by omega) (fun e => ?_) (fun e => dm_ws13 ha hb hd ?_))
  · rw [dm_z0 (dm_s30 h)] at H; exact H
  · rw [dm_z1 (dm_s31 h), dm_z0 e] at H; exact H
  · rw [dm_z1 (dm_s31 h), dm_z1 (by omega)] at H; exact H
theorem dm_vbit {u : St0} {r c : Nat} (hr : r < 3) (hc : c < 4) (H : post (nI (dm_bi r c))) : wpL_bit post u (nI r) (nI c) := by
  unfold wpL_bit
  unfold dm_bi at H
  refine pk_le 3 c (fun h => ?_) (fun h => ?_)
  · rw [dm_z0 (dm_s30 h)] at H; exact H
  · rw [dm_z1 (dm_s31 h)] at H
    rw [show (3 : Int32) * nI r = nI (3 * r) from pk_mul 3 r, nI_add, dm_nshl1 (by omega)]
    exact H
theorem dm_kk : ∀ k, k < 64 → nI k >>> ((4 : Int32) &&& 31) = nI (dm_ka k) ∧ (nI k >>> ((2 : Int32) &&& 31)) &&& 3 = nI (dm_kb k) ∧ nI k &&& 3 = nI (dm_kd k) ∧ dm_ka k < 4 ∧ dm_kb k < 4 ∧ dm_kd k < 4 := by decide +kernel
theorem dm_dle : ∀ s, s < 5 → ∀ b, b < 4 → (dm_d s ≤ nI b ↔ s ≤ b + 1) := by decide +kernel
theorem dm_deq : ∀ s, s < 5 → ∀ b, b < 4 → (dm_d s = nI b ↔ s = b + 1) := by decide +kernel
theorem dm_n64 : ∀ i, i < 64 → ¬ (64 : Int32) ≤ nI i := by decide +kernel
theorem dm_wlg {K : Nat → Bool} (H : ∀ n, n < 4 → K n = true → post (nI n)) :
    ∀ k i n, i + k = 64 → n < 4 → dm_lg w K k n = true → wL_largest_4 post (nI w) (k + 1) (nI n) (nI i)
  | 0, i, n, h, hn, hk => by
    have e : i = 64 := by omega
    subst e
    exact br_t (by decide) (H n hn hk)
  | k + 1, i, n, h, hn, hk => by
    have hi : i < 64 := by omega
    obtain ⟨e1, e2, e3, l1, l2, l3⟩ := dm_kk i hi
    have hk' : dm_f (dm_sz w (dm_ka (Nat.sub 63 k)) (dm_kb (Nat.sub 63 k)) (dm_kd (Nat.sub 63 k))) (fun s => dm_z (Nat.sub s (Nat.succ n)) (dm_lg w K k n) (dm_lg w K k (Nat.sub s 1))) = true := hk
    rw [dm_fe, show Nat.sub 63 k = i from (by omega : 63 - k = i)] at hk'
    have hs := dm_szlt w (dm_ka i) (dm_kb i) (dm_kd i)
    refine br_f (dm_n64 i hi) ?_
    rw [e1, e2, e3]
    refine dm_vsz l1 l2 l3 ?_
    by_cases e : dm_sz w (dm_ka i) (dm_kb i) (dm_kd i) ≤ n + 1
    · rw [dm_z0 (show Nat.sub (dm_sz w (dm_ka i) (dm_kb i) (dm_kd i)) (Nat.succ n) = 0 from Nat.sub_eq_zero_of_le e)] at hk'
      exact br_t ((dm_dle _ hs n hn).mpr e) (nm_r (nI_1 i) (dm_wlg H k (i + 1) n (by omega) hn hk'))
    · refine br_f (fun z => e ((dm_dle _ hs n hn).mp z)) (nm_r (nI_1 i) ?_)
      rw [dm_z1 (by show ¬ dm_sz w (dm_ka i) (dm_kb i) (dm_kd i) - (n + 1) = 0; omega)] at hk'
      cases es : dm_sz w (dm_ka i) (dm_kb i) (dm_kd i) with
      | zero => exact absurd (Nat.zero_le (n + 1)) (es ▸ e)
      | succ s =>
        rw [es] at hk'
        exact dm_wlg H k (i + 1) s (by omega) (by omega) hk'
theorem dm_vlg {K : Nat → Bool} {u : St0} (hk : dm_lg w K 64 0 = true) (H : ∀ n, n < 4 → K n = true → post (nI n)) : wpL_largest post u (nI w) :=
  ⟨65, dm_wlg H 64 0 0 rfl (by decide) hk⟩
end
/-! numbers of the law -/
theorem dm_tb7 (i : Nat) : (7 : Nat).testBit i = decide (i < 3) := Nat.testBit_two_pow_sub_one 3 i
theorem dm_nt' (w : Nat) {c : Nat} (hc : c < 29) : ((nI w >>> (nI c &&& 31)) &&& 7) = nI (Nat.land (Nat.shiftRight w c) 7) := by
  apply dm_bext
  intro i hi
  rw [dm_band, show (7 : Int32) = nI 7 from rfl, dm_bn hi, dm_bn hi, dm_tb7]
  show _ = ((w >>> c) &&& 7).testBit i
  rw [Nat.testBit_and, Nat.testBit_shiftRight, dm_tb7]
  by_cases h : i < 3
  · rw [dm_bshr c (by omega) _ (by omega), dm_bn (by omega)]
  · rw [decide_eq_false h, Bool.and_false, Bool.and_false]
theorem dm_nt2 (w : Nat) {c c' : Nat} (hc : c < 29) (hc' : c' < 29) : (((nI w >>> (nI c &&& 31)) &&& (nI w >>> (nI c' &&& 31))) &&& 7) = nI (Nat.land (Nat.land (Nat.shiftRight w c) (Nat.shiftRight w c')) 7) := by
  apply dm_bext
  intro i hi
  rw [dm_band, dm_band, show (7 : Int32) = nI 7 from rfl, dm_bn hi, dm_bn hi, dm_tb7]
  show _ = (((w >>> c) &&& (w >>> c')) &&& 7).testBit i
  rw [Nat.testBit_and, Nat.testBit_and, Nat.testBit_shiftRight, Nat.testBit_shiftRight, dm_tb7]
  by_cases h : i < 3
  · rw [dm_bshr c (by omega) _ (by omega), dm_bshr c' (by omega) _ (by omega), dm_bn (by omega), dm_bn (by omega)]
  · rw [decide_eq_false h, Bool.and_false, Bool.and_false]
theorem dm_tlt (w k : Nat) : dm_t w k < 8 := Nat.lt_of_le_of_lt (Nat.and_le_right (n := w >>> (3 * k)) (m := 7)) (by decide)
theorem dm_tsl {x o : Nat} (hx : x < 8) (ho : o < 5) : Nat.shiftLeft x o < 128 := by
  have h : ∀ x, x < 8 → ∀ o, o < 5 → Nat.shiftLeft x o < 128 := by decide
  exact h x hx o ho
/-- three bits of w, moved by o -/
theorem dm_ntk (w : Nat) {k o : Nat} (hk : k < 3) (ho : o < 5) : ((nI w >>> (((3 : Int32) * nI k) &&& 31)) &&& 7) <<< (nI o &&& 31) = nI (Nat.shiftLeft (dm_t w k) o) := by
  rw [show (3 : Int32) * nI k = nI (3 * k) from pk_mul 3 k, dm_nt' w (by omega), dm_nshl _ (by omega)]
  rfl
theorem dm_nlo (x : Nat) {o : Nat} (ho : o < 5) : ((127 &&& (((7 : Int32) <<< (nI o &&& 31)) ^^^ (-1))) ||| (nI x <<< (nI o &&& 31))) = nI (dm_lo x o) := by
  have h : ∀ o, o < 5 → (127 &&& (((7 : Int32) <<< (nI o &&& 31)) ^^^ (-1))) = nI (Nat.xor 127 (Nat.shiftLeft 7 o)) := by decide +kernel
  rw [h o ho, dm_nshl _ (by omega), dm_nor]
  rfl
theorem dm_nlc : ∀ a, a < 4 → ∀ b, b < 4 → ∀ d, d < 4 → (((7 &&& (((1 : Int32) <<< (nI a &&& 31)) ^^^ (-1))) &&& (((1 : Int32) <<< (nI b &&& 31)) ^^^ (-1))) &&& (((1 : Int32) <<< (nI d &&& 31)) ^^^ (-1))) = nI (dm_lc a b d) := by decide +kernel
end
section
/-! the law's loops -/
theorem dm_n3 : ∀ i, i < 3 → ¬ (3 : Int32) ≤ nI i := by decide +kernel
theorem dm_n9 : ∀ i, i < 9 → ¬ (9 : Int32) ≤ nI i := by decide +kernel
theorem dm_d3 : ∀ i, i < 9 → nI i - nI i / 3 * 3 = nI (i % 3) ∧ nI i / 3 = nI (i / 3) := by decide +kernel
/-- a bit that is held against 1 -/
theorem dm_bo {x c : Nat} {A B : Prop} (hc : c < 32) (f : dm_b x c = 0 → B) (g : dm_b x c = 1 → A) : (((nI x >>> (nI c &&& 31)) &&& 1) = 1 → A) ∧ (¬ ((nI x >>> (nI c &&& 31)) &&& 1) = 1 → B) := by
  rw [dm_nbit x hc]
  rcases dm_b01 x c with h | h
  · rw [h]; exact br_f (by decide) (f h)
  · rw [h]; exact br_t rfl (g h)
section
variable {post : Int32 → St0 → Prop} {mc ms kc ks : Nat} {f0 f1 f2 f3 f4 : Int32} {a1 a2 a3 a4 a5 a6 a7 : Nat → Int32}
theorem dm_w442 {J : Int32 → Int32 → Prop} {x4 x5 : Int32} {so x rd : Nat} (H : J (nI (dm_b9 so x 9)) (nI (rd + 1))) :
    ∀ k i, i + k = 9 → wL_lawOf_442 post mc ms J x4 x5 (nI so) (nI rd) kc ks f0 f1 f2 f3 f4 a1 a2 a3 a4 a5 a6 a7 (k + 1) (nI (dm_b9 so x i)) (nI i)
  | 0, i, h => by
    have e : i = 9 := by omega
    subst e
    exact br_t (by decide) (nm_r (nI_1 rd) H)
  | k + 1, i, h => by
    have hi : i < 9 := by omega
    have ih := dm_w442 (x4 := x4) (x5 := x5) H k (i + 1) (by omega)
    have st : dm_b9 so x (i + 1) = dm_z (dm_b (dm_b9 so x i) (i / 3)) (dm_b9 so x i) (dm_z (Nat.land (Nat.land (Nat.shiftRight so (i / 3 * 3)) (Nat.shiftRight so (i % 3 * 3))) 7) (dm_b9 so x i) (Nat.lor (dm_b9 so x i) (Nat.shiftLeft 1 (i % 3)))) := rfl
    obtain ⟨em, ed⟩ := dm_d3 i hi
    have hl : Nat.land (Nat.land (Nat.shiftRight so (i / 3 * 3)) (Nat.shiftRight so (i % 3 * 3))) 7 < 8 := Nat.lt_of_le_of_lt (Nat.and_le_right (m := 7)) (by decide)
    rw [st] at ih
    refine br_f (dm_n9 i hi) ⟨by decide, ?_⟩
    rw [em, ed]
    refine dm_bo (by omega) (fun hb => nm_r (nI_1 i) ?_) (fun hb => ⟨by decide, by decide, ?_⟩)
    · rw [dm_z0 hb] at ih; exact ih
    · rw [dm_z1 (by omega)] at ih
      rw [show nI (i / 3) * 3 = nI (i / 3 * 3) from pk_mul (i / 3) 3, show nI (i % 3) * 3 = nI (i % 3 * 3) from pk_mul (i % 3) 3, dm_nt2 so (by omega) (by omega)]
      refine pk_eq (Nat.land (Nat.land (Nat.shiftRight so (i / 3 * 3)) (Nat.shiftRight so (i % 3 * 3))) 7) 0 (fun e => nm_r (nI_1 i) ?_) (fun e => ⟨by decide, nm_r (by rw [dm_nshl1 (by omega), dm_nor]) (nm_r (nI_1 i) ?_)⟩)
      · rw [dm_z0 e] at ih; exact ih
      · rw [dm_z1 e] at ih; exact ih
theorem dm_w433 {so x row oR US : Nat} (hrow : row < 3) (hoR : oR < 5) (h7 : dm_N a7 US) (e : dm_blk US (row + oR) = Nat.shiftLeft (dm_b3 so x 3) oR) (H : post 1 ()) :
    ∀ k i, i + k = 3 → wL_lawOf_433 post mc ms (nI row) (nI oR) (nI so) kc ks 1 f1 f2 f3 f4 a1 a2 a3 a4 a5 a6 a7 (k + 1) (nI (dm_b3 so x i)) (nI i)
  | 0, i, h => by
    have ei : i = 3 := by omega
    subst ei
    refine br_t (by decide) ?_
    rw [nI_add]
    refine dm_vblk (by omega) h7 ?_
    exact br_t (by rw [dm_nshl _ (by omega), e]) H
  | k + 1, i, h => by
    have ih := dm_w433 hrow hoR h7 e H k (i + 1) (by omega)
    exact br_f (dm_n3 i (by omega)) ⟨10, dm_w442 (x := dm_b3 so x i) ih 9 0 rfl⟩
theorem dm_w287x {so ev lr lc row oR oC rfr cfc US n : Nat} (hrow : row < 3) (hoR : oR < 5) (hoC : oC < 5) (h7 : dm_N a7 US)
    (er : rfr = dm_lo lr oR) (ec : cfc = dm_lo lc oC) (eb : dm_blk US (row + oR) = Nat.shiftLeft (dm_bk so row) oR) (H : post 1 ()) :
    wL_lawOf_287 post mc ms (nI row) (nI oR) (nI oC) (nI so) (nI ev) (nI lr) (nI lc) kc ks (n + 1) (nI 3) 1 (nI rfr) f2 f3 (nI cfc) a1 a2 a3 a4 a5 a6 a7 := by
  refine br_t (by decide) ?_
  refine dm_vlr ?_
  dsimp only
  refine br_t (by rw [dm_nlo _ hoR, er]) ?_
  refine dm_vlc ?_
  dsimp only
  refine br_t (by rw [dm_nlo _ hoC, ec]) ?_
  rw [show (3 : Int32) * nI row = nI (3 * row) from pk_mul 3 row, dm_nt' so (by omega)]
  have hl := dm_tlt so row
  unfold dm_bk at eb
  refine pk_eq (dm_t so row) 0 (fun e => ⟨4, ?_⟩) (fun e => nm_r (dm_nshl1 (by omega)) ⟨4, ?_⟩)
  · rw [dm_z0 (show Nat.land (Nat.shiftRight so (Nat.mul 3 row)) 7 = 0 from e)] at eb
    exact dm_w433 (x := 0) hrow hoR h7 eb H 3 0 rfl
  · rw [dm_z1 (show Nat.land (Nat.shiftRight so (Nat.mul 3 row)) 7 ≠ 0 from e)] at eb
    exact dm_w433 (x := Nat.shiftLeft 1 row) hrow hoR h7 eb H 3 0 rfl
theorem dm_ws287 {so ev oR oC rfr cfc PR US n k : Nat} {x4 x11 x12 : Int32} (hk : k < 3) (hoR : oR < 5) (hoC : oC < 5) (h2 : dm_B a2 PR) (h7 : dm_N a7 US)
    (eu : dm_g US (k + oR) = Nat.shiftLeft (dm_t so k) oC) (ef : dm_fo PR rfr cfc US (k + oR) = Nat.shiftLeft (dm_t ev k) oC)
    (H : wL_lawOf_287 post mc ms x4 (nI oR) (nI oC) (nI so) (nI ev) x11 x12 kc ks n (nI (k + 1)) 1 (nI rfr) f2 f3 (nI cfc) a1 a2 a3 a4 a5 a6 a7) :
    wL_lawOf_287 post mc ms x4 (nI oR) (nI oC) (nI so) (nI ev) x11 x12 kc ks (n + 1) (nI k) 1 (nI rfr) f2 f3 (nI cfc) a1 a2 a3 a4 a5 a6 a7 := by
  refine br_f (dm_n3 k hk) ?_
  rw [nI_add]
  refine dm_vusb (by omega) h7 ?_
  dsimp only
  refine br_t (by rw [dm_ntk so hk hoC, eu]) ?_
  refine dm_vfo (by omega) h2 h7 ?_
  dsimp only
  exact br_t (by rw [dm_ntk ev hk hoC, ef]) (nm_r (nI_1 k) H)
end
/-! the loop over 64 matchings -/
section
variable {post : Int32 → St0 → Prop} {mc ms kc ks : Nat} {x3 x4 x5 x6 x8 x9 x10 : Int32} {f0 f1 f2 f3 f4 : Int32} {a1 a2 a3 a4 a5 a6 a7 : Nat → Int32} {J : Int32 → Int32 → Int32 → Int32 → Int32 → Prop}
theorem dm_w225 {lc i a b d z0 z1 : Nat} (ha : a < 4) (hb : b < 4) (hd : d < 4) (H : J x9 x10 (nI (Nat.lor z1 z0)) (nI (Nat.lor lc (dm_lc a b d))) (nI (i + 1))) :
    wL_lawOf_225 post mc ms J x3 x4 x5 x6 x8 x9 x10 (nI lc) (nI i) (nI a) (nI b) (nI d) (nI z0) (nI z1) kc ks f0 f1 f2 f3 f4 a1 a2 a3 a4 a5 a6 a7 := by
  unfold wL_lawOf_225
  exact nm_r (dm_nor _ _) (nm_r (by rw [dm_nlc a ha b hb d hd, dm_nor]) (nm_r (nI_1 i) H))
theorem dm_w213 {lc i a b d z0 z1 : Nat} (ha : a < 4) (hb : b < 4) (hd : d < 4) (H : J x9 x10 (nI (Nat.lor (Nat.lor z1 z0) (dm_e3 d 4))) (nI (Nat.lor lc (dm_lc a b d))) (nI (i + 1))) :
    wL_lawOf_213 post mc ms J x3 x4 x5 x6 x8 x9 x10 (nI lc) (nI i) (nI a) (nI b) (nI d) (nI z0) (nI z1) kc ks f0 f1 f2 f3 f4 a1 a2 a3 a4 a5 a6 a7 := by
  unfold wL_lawOf_213
  rw [dm_nor]
  unfold dm_e3 at H
  refine pk_eq d 3 (fun e => ?_) (fun e => ?_)
  · rw [dm_z0 (dm_x0.mpr e)] at H
    exact dm_w225 (z0 := 4) ha hb hd H
  · rw [dm_z1 (dm_xn e)] at H
    exact dm_w225 (z0 := 0) ha hb hd H
theorem dm_w201 {lc i a b d z0 z1 : Nat} (ha : a < 4) (hb : b < 4) (hd : d < 4) (H : J x9 x10 (nI (Nat.lor (Nat.lor (Nat.lor z1 z0) (dm_e3 b 2)) (dm_e3 d 4))) (nI (Nat.lor lc (dm_lc a b d))) (nI (i + 1))) :
    wL_lawOf_201 post mc ms J x3 x4 x5 x6 x8 x9 x10 (nI lc) (nI i) (nI a) (nI b) (nI d) (nI z0) (nI z1) kc ks f0 f1 f2 f3 f4 a1 a2 a3 a4 a5 a6 a7 := by
  unfold wL_lawOf_201
  rw [dm_nor]
  by_cases e : b = 3
  · rw [show dm_e3 b 2 = 2 from dm_z0 (dm_x0.mpr e)] at H
    exact br_t (by rw [e]; rfl) (dm_w213 (z0 := 2) ha hb hd H)
  · rw [show dm_e3 b 2 = 0 from dm_z1 (dm_xn e)] at H
    exact br_f (fun z => e ((nI_eq (by omega) (by decide)).mp (show nI b = nI 3 from z))) (dm_w213 (z0 := 0) ha hb hd H)
end
section
variable {post : Int32 → St0 → Prop} {mc ms kc ks : Nat} {x4 x5 x6 : Int32} {f0 f1 f2 f3 f4 : Int32} {a1 a2 a3 a4 a5 a6 a7 : Nat → Int32}
theorem dm_w110 {w n : Nat} {K : Nat → Nat → Nat → Nat → Bool} (hn : n < 4)
    (H : ∀ so ev lr lc, K so ev lr lc = true → wL_lawOf_110 post mc ms (nI w) x4 x5 x6 (nI n) kc ks f0 f1 f2 f3 f4 a1 a2 a3 a4 a5 a6 a7 1 (nI so) (nI ev) (nI lr) (nI lc) (nI 64)) :
    ∀ k i so ev lr lc, i + k = 64 → dm_sp w n K k so ev lr lc = true → wL_lawOf_110 post mc ms (nI w) x4 x5 x6 (nI n) kc ks f0 f1 f2 f3 f4 a1 a2 a3 a4 a5 a6 a7 (k + 1) (nI so) (nI ev) (nI lr) (nI lc) (nI i)
  | 0, i, so, ev, lr, lc, h, hk => by
    have e : i = 64 := by omega
    subst e
    exact H so ev lr lc hk
  | k + 1, i, so, ev, lr, lc, h, hk => by
    have hi : i < 64 := by omega
    obtain ⟨e1, e2, e3, l1, l2, l3⟩ := dm_kk i hi
    have hk' : dm_z (Nat.xor (dm_sz w (dm_ka (Nat.sub 63 k)) (dm_kb (Nat.sub 63 k)) (dm_kd (Nat.sub 63 k))) (Nat.succ n))
      (dm_f (Nat.lor so (dm_set (Nat.sub 63 k))) (fun some' => dm_f (Nat.land ev (dm_set (Nat.sub 63 k))) (fun every' =>
        dm_f (Nat.lor (Nat.lor (Nat.lor lr (dm_e3 (dm_ka (Nat.sub 63 k)) 1)) (dm_e3 (dm_kb (Nat.sub 63 k)) 2)) (dm_e3 (dm_kd (Nat.sub 63 k)) 4)) (fun lr' =>
          dm_f (Nat.lor lc (dm_lc (dm_ka (Nat.sub 63 k)) (dm_kb (Nat.sub 63 k)) (dm_kd (Nat.sub 63 k)))) (fun lc' => dm_sp w n K k some' every' lr' lc')))))
      (dm_sp w n K k so ev lr lc) = true := hk
    rw [dm_fe, dm_fe, dm_fe, dm_fe, show Nat.sub 63 k = i from (by omega : 63 - k = i)] at hk'
    have hs := dm_szlt w (dm_ka i) (dm_kb i) (dm_kd i)
    refine br_f (dm_n64 i hi) ?_
    refine nm_r e1 (nm_r e2 (nm_r e3 (dm_vsz l1 l2 l3 ?_)))
    by_cases e : dm_sz w (dm_ka i) (dm_kb i) (dm_kd i) = n + 1
    · rw [dm_z0 (dm_x0.mpr e)] at hk'
      refine br_t ((dm_deq _ hs n hn).mpr e) ?_
      refine dm_vbit (r := 0) (by decide) l1 ?_
      refine dm_vbit (r := 1) (by decide) l2 ?_
      refine dm_vbit (r := 2) (by decide) l3 ?_
      have ih := dm_w110 hn H k (i + 1) _ _ _ _ (by omega) hk'
      refine nm_r (show _ = nI (dm_set i) by rw [dm_nor, dm_nor]; rfl) (nm_r (dm_nor _ _) (nm_r (dm_nand _ _) ?_))
      by_cases ea : dm_ka i = 3
      · rw [show dm_e3 (dm_ka i) 1 = 1 from dm_z0 (dm_x0.mpr ea)] at ih
        exact br_t (by rw [ea]; rfl) (dm_w201 (z0 := 1) l1 l2 l3 ih)
      · rw [show dm_e3 (dm_ka i) 1 = 0 from dm_z1 (dm_xn ea)] at ih
        exact br_f (fun z => ea ((nI_eq (by omega) (by decide)).mp (show nI (dm_ka i) = nI 3 from z))) (dm_w201 (z0 := 0) l1 l2 l3 ih)
    · rw [dm_z1 (dm_xn e)] at hk'
      exact br_f (fun z => e ((dm_deq _ hs n hn).mp z)) (nm_r (nI_1 i) (dm_w110 hn H k (i + 1) so ev lr lc (by omega) hk'))
theorem dm_w110x {x3 : Int32} {e row oR oC n so ev lr lc : Nat} (hrow : row < 3) (hoR : oR < 5) (hoC : oC < 5)
    (h1 : dm_N a1 (dm_E e oR oC)) (h2 : dm_B a2 0) (h3 : dm_B a3 0) (h4 : dm_S a4 0) (h5 : dm_S a5 0) (h6 : dm_N a6 0) (h7 : dm_N a7 0)
    (hk : dm_ck e oR oC n so ev lr lc = true) (H : post 1 ()) :
    wL_lawOf_110 post mc ms x3 (nI row) (nI oR) (nI oC) (nI n) kc ks 0 f1 0 0 f4 a1 a2 a3 a4 a5 a6 a7 1 (nI so) (nI ev) (nI lr) (nI lc) (nI 64) := by
  unfold dm_ck at hk
  rw [dm_fe] at hk
  refine br_t (by decide) ?_
  unfold wpX_largest
  dsimp only
  refine dm_vprep h1 h2 h3 h4 h5 h6 h7 hk (fun PR PC rfr cfr rfc cfc RE US b2 b3 b4 b5 b6 b7 q2 q3 q7 qk => ?_)
  dsimp only
  obtain ⟨c1, qk⟩ := dm_qe qk
  obtain ⟨c2, qk⟩ := dm_qe qk
  obtain ⟨u0, qk⟩ := dm_qe qk
  obtain ⟨w0, qk⟩ := dm_qe qk
  obtain ⟨u1, qk⟩ := dm_qe qk
  obtain ⟨w1, qk⟩ := dm_qe qk
  obtain ⟨u2, qk⟩ := dm_qe qk
  obtain ⟨w2, qk⟩ := dm_qe qk
  obtain ⟨cr, qk⟩ := dm_qe qk
  obtain ⟨cc, qk⟩ := dm_qe qk
  obtain ⟨b0, qk⟩ := dm_qe qk
  obtain ⟨b1, qk⟩ := dm_qe qk
  obtain ⟨b2', qk⟩ := dm_qe qk
  have eb : dm_blk US (row + oR) = Nat.shiftLeft (dm_bk so row) oR := by
    have hr : row = 0 ∨ row = 1 ∨ row = 2 := by omega
    rcases hr with hr | hr | hr
    · subst hr; exact b0
    · subst hr; exact b1
    · subst hr; exact b2'
  refine ⟨8, dm_wlar q2 ?_ 7 0 rfl⟩
  dsimp only
  refine br_t (by rw [c1]) ?_
  refine dm_vcov h1 ?_
  dsimp only
  refine br_t (by rw [c2]) ⟨4, ?_⟩
  exact dm_ws287 (k := 0) (by decide) hoR hoC q2 q7 u0 w0 (dm_ws287 (k := 1) (by decide) hoR hoC q2 q7 u1 w1 (dm_ws287 (k := 2) (by decide) hoR hoC q2 q7 u2 w2 (dm_w287x hrow hoR hoC q7 cr cc eb H)))
end
end
section
/-! the kernel's word for each edge set and each offset -/
theorem dm_evj {a : Nat} : ∀ m, dm_ev a m = true → ∀ j, j < m → dm_ch (a + j) = true
  | 0, _, j, hj => absurd hj (by omega)
  | m + 1, h, j, hj => by
    have h' : Bool.rec (motive := fun _ => Bool) false (dm_ev a m) (dm_ch (a + m)) = true := h
    cases e : dm_ch (a + m) with
    | false => rw [e] at h'; exact absurd (show false = true from h') (by decide)
    | true =>
      rw [e] at h'
      by_cases ej : j = m
      · rw [ej]; exact e
      · exact dm_evj m h' j (by omega)
theorem dm_alj {e n so ev lr lc : Nat} : ∀ m, dm_al e n so ev lr lc m = true → ∀ j, j < m → dm_ck e (j / 5) (j % 5) n so ev lr lc = true
  | 0, _, j, hj => absurd hj (by omega)
  | m + 1, h, j, hj => by
    have h' : Bool.rec (motive := fun _ => Bool) false (dm_al e n so ev lr lc m) (dm_ck e (m / 5) (m % 5) n so ev lr lc) = true := h
    cases e1 : dm_ck e (m / 5) (m % 5) n so ev lr lc with
    | false => rw [e1] at h'; exact absurd (show false = true from h') (by decide)
    | true =>
      rw [e1] at h'
      by_cases ej : j = m
      · rw [ej]; exact e1
      · exact dm_alj m h' j (by omega)
theorem dm_alo {e n so ev lr lc oR oC : Nat} (h : dm_al e n so ev lr lc 25 = true) (hR : oR < 5) (hC : oC < 5) : dm_ck e oR oC n so ev lr lc = true := by
  have h1 := dm_alj 25 h (5 * oR + oC) (by omega)
  rw [show (5 * oR + oC) / 5 = oR by omega, show (5 * oR + oC) % 5 = oC by omega] at h1
  exact h1
theorem dm_all (q : Nat) (hq : q < 16) : dm_ev (32 * q) 32 = true := by
  have h : q = 0 ∨ q = 1 ∨ q = 2 ∨ q = 3 ∨ q = 4 ∨ q = 5 ∨ q = 6 ∨ q = 7 ∨ q = 8 ∨ q = 9 ∨ q = 10 ∨ q = 11 ∨ q = 12 ∨ q = 13 ∨ q = 14 ∨ q = 15 := by omega
  rcases h with h | h | h | h | h | h | h | h | h | h | h | h | h | h | h | h <;> subst h
  · exact dm_k0
  · exact dm_k1
  · exact dm_k2
  · exact dm_k3
  · exact dm_k4
  · exact dm_k5
  · exact dm_k6
  · exact dm_k7
  · exact dm_k8
  · exact dm_k9
  · exact dm_k10
  · exact dm_k11
  · exact dm_k12
  · exact dm_k13
  · exact dm_k14
  · exact dm_k15
theorem dm_che (e : Nat) (he : e < 512) : dm_ch e = true := by
  have h := dm_evj 32 (dm_all (e / 32) (by omega)) (e % 32) (by omega)
  rw [show 32 * (e / 32) + e % 32 = e by omega] at h
  exact h
/-! the object is made, its rows are stored -/
theorem dm_Nz : dm_N (fun _ => 0) 0 := by
  intro i _
  rw [dm_g0]
  rfl
theorem dm_Sz : dm_S (fun _ => 0) 0 := by
  intro i _
  rw [dm_g0]
  exact ⟨by decide, rfl⟩
theorem dm_Bz {a : Nat → Int32} (h : ∀ j, j < 7 → a j = -1) : dm_B a 0 := by
  intro i hi
  rw [dm_g0]
  exact ⟨by decide, h i hi⟩
theorem dm_m1 {a : Nat → Int32} {i : Nat} (h : ∀ j, j < i → a j = -1) : ∀ j, j < i + 1 → upd a i (-1) j = -1 := by
  intro j hj
  by_cases e : j = i
  · rw [e, pk_us]
  · rw [pk_un e]; exact h j (by omega)
theorem dm_winit {post : St2 → Prop} {mc ms kc ks : Nat} {f0 f1 f2 f3 f4 : Int32} {a1 a4 a5 a6 a7 : Nat → Int32}
    (H : ∀ a2 a3, dm_B a2 0 → dm_B a3 0 → post (f0, f1, f2, f3, f4, a1, a2, a3, a4, a5, a6, a7)) :
    ∀ k i a2 a3, i + k = 7 → (∀ j, j < i → a2 j = -1) → (∀ j, j < i → a3 j = -1) → wX_init_62 post mc ms kc ks f0 f1 f2 f3 f4 (k + 1) (nI i) a1 a2 a3 a4 a5 a6 a7
  | 0, i, a2, a3, h, h2, h3 => by
    have e : i = 7 := by omega
    subst e
    exact br_t (by decide) (H a2 a3 (dm_Bz h2) (dm_Bz h3))
  | k + 1, i, a2, a3, h, h2, h3 => by
    have hi : i < 7 := by omega
    refine br_f (dm_n7 i hi) ⟨dm_in hi, ?_⟩
    rw [nI_clamp (by omega)]
    exact nm_e ⟨dm_in hi, nm_e (nm_r (nI_1 i) (dm_winit H k (i + 1) _ _ (by omega) (dm_m1 h2) (dm_m1 h3)))⟩
section
variable {post : Int32 → St0 → Prop} {mc ms kc ks : Nat} {x4 : Int32} {f0 f1 f2 f3 f4 : Int32} {a1 a2 a3 a4 a5 a6 a7 : Nat → Int32}
theorem dm_ws48 {e oR oC k n : Nat} (hk : k < 3) (hoR : oR < 5) (hoC : oC < 5)
    (H : wL_lawOf_48 post mc ms (nI e) x4 (nI oR) (nI oC) kc ks n (nI (k + 1)) 0 f1 f2 f3 f4 (upd a1 (k + oR) (nI (Nat.shiftLeft (dm_t e k) oC))) a2 a3 a4 a5 a6 a7) :
    wL_lawOf_48 post mc ms (nI e) x4 (nI oR) (nI oC) kc ks (n + 1) (nI k) f0 f1 f2 f3 f4 a1 a2 a3 a4 a5 a6 a7 := by
  refine br_f (dm_n3 k hk) ?_
  rw [nI_add, dm_ntk e hk hoC]
  refine dm_vrow (by omega) (dm_tsl (dm_tlt e k) hoC) ?_
  dsimp only
  exact br_f (by decide) (nm_r (nI_1 k) H)
end
theorem dm_lawOf {post : Int32 → St0 → Prop} {mc ms : Nat} (hmc : 8 ≤ mc) (hms : 61 ≤ ms) (H : post 1 ()) (p0 p1 p2 : Int32) : wpL_lawOf post mc ms () p0 p1 p2 := by
  obtain ⟨e, he, e0⟩ := pk_andE p0 (m := 511) 9 (by decide)
  obtain ⟨r1, hr1, e1⟩ := pk_andE p1 (m := 255) 8 (by decide)
  obtain ⟨r2, hr2, e2⟩ := pk_andE (p1 >>> ((8 : Int32) &&& 31)) (m := 255) 8 (by decide)
  obtain ⟨c1, hc1, e3⟩ := pk_andE p2 (m := 255) 8 (by decide)
  have hrow : r1 % 3 < 3 := Nat.mod_lt _ (by decide)
  have hoR : r2 % 5 < 5 := Nat.mod_lt _ (by decide)
  have hoC : c1 % 5 < 5 := Nat.mod_lt _ (by decide)
  unfold wpL_lawOf
  rw [e0, e1, e2, e3]
  refine nm_e ⟨by decide, nm_r (pk_rem (a := r1) (d := 3) (by omega) (by decide) (by decide)) ⟨by decide, nm_r (pk_rem (a := r2) (d := 5) (by omega) (by decide) (by decide)) ⟨by decide, nm_r (pk_rem (a := c1) (d := 5) (by omega) (by decide) (by decide)) ⟨by omega, by omega, mc - 1, ms - 12, by omega, by omega, ?_⟩⟩⟩⟩
  refine ⟨by omega, by omega, by omega, by omega, by omega, by omega, by omega, by omega, by omega, by omega, by omega, by omega, by omega, by omega, 8, dm_winit (fun a2 a3 h2 h3 => ?_) 7 0 _ _ rfl (fun j hj => absurd hj (by omega)) (fun j hj => absurd hj (by omega))⟩
  dsimp only
  refine ⟨4, dm_ws48 (k := 0) (by decide) hoR hoC (dm_ws48 (k := 1) (by decide) hoR hoC (dm_ws48 (k := 2) (by decide) hoR hoC ?_))⟩
  have hN : dm_N (upd (upd (upd (fun _ => 0) (0 + r2 % 5) (nI (Nat.shiftLeft (dm_t e 0) (c1 % 5)))) (1 + r2 % 5) (nI (Nat.shiftLeft (dm_t e 1) (c1 % 5)))) (2 + r2 % 5) (nI (Nat.shiftLeft (dm_t e 2) (c1 % 5)))) (dm_E e (r2 % 5) (c1 % 5)) := by
    have b : ∀ k, Nat.shiftLeft (dm_t e k) (c1 % 5) < 256 := fun k => Nat.lt_trans (dm_tsl (dm_tlt e k) hoC) (by decide)
    rw [Nat.zero_add]
    exact dm_Nu (b 2) (fun j hj _ => dm_Nu (b 1) (fun j hj _ => dm_Nu (b 0) (fun j hj _ => dm_Nz j hj) j hj) j hj)
  refine br_t (by decide) (dm_vlg (dm_che e he) (fun n hn hK => ⟨65, dm_w110 hn (fun so ev lr lc hA => ?_) 64 0 0 511 0 0 rfl hK⟩))
  exact dm_w110x hrow hoR hoC hN h2 h3 dm_Sz dm_Sz dm_Nz dm_Nz (dm_alo hA hoR hoC) H
theorem dm_cell {post : Int32 → Prop} {L : Nat} {xs : Nat → Int32} {u : St0} (hL : L ≤ 3) (i : Nat) (hi : i < 3) (H : ∀ x, post x) : wpL_cellAt post L xs u (nI i) :=
  pk_le L i (fun _ => H _) (fun h => ⟨vp_in_nI h (by omega), H _⟩)
theorem i_vc (xs : Nat → Int32) (L : Nat) (hL : L ≤ 3) : wpL_law (fun r => r = 1) L xs := by
  unfold wpL_law
  refine dm_cell hL 0 (by decide) (fun r1 => ?_)
  refine dm_cell hL 1 (by decide) (fun r2 => ?_)
  refine dm_cell hL 2 (by decide) (fun r3 => ?_)
  exact ⟨38, 608, by decide, by decide, dm_lawOf (by decide) (by decide) rfl r1 r2 r3⟩
end
